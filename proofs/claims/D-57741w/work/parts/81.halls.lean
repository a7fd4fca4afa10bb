set_option maxRecDepth 100000
/-! COPYING A HALL: its pegs, its forgiven -/
theorem nup_id {k q : Nat} (h : q = k) : nup (fun j => j) k q = fun j => j := by
  funext j
  by_cases e : j = k
  · rw [e, nup_s, h]
  · rw [nup_n e]
theorem HB.nf {g : xG} {E τ : Nat → Nat} {σ : Nat → Nat → Nat} {tf : Nat → Nat → Int32} {S Y : Nat → Int32} {A : xA} (h : HB g E τ σ tf S Y A) {j : Nat} (hj : j < fgN S) : (∃ nn bf, A.1 (σ 7 j) = some (xNd (σ 8 j) (σ 9 j) (σ 10 j) nn bf (afF (σ 7) (fgN S) j))) ∧ σ 8 j < 40 ∧ ∀ i, i < j → σ 8 i ≠ σ 8 j := by
  obtain ⟨es, ks, vs, hM, -⟩ := h.fm
  obtain ⟨nn, bf, k1, k2, k3⟩ := hM.n hj
  exact ⟨⟨nn, bf, k1⟩, hM.h.1 j hj, fun i hi => hM.h.2 i j hi hj⟩
theorem cph3 (g : xG) (E τo : Nat → Nat) (σo : Nat → Nat → Nat) (tfo : Nat → Nat → Int32) (S Y : Nat → Int32) (A0 : xA) (hg : gW g E) (p c0 s0 : Nat) (t0 : Value) (es ks vs hd tl : Option Nat) (mc th : Int32) {Q : Outcome → xA → Prop} (z : Nat → Nat) (K : ∀ σ tf τ A X3 X4, σ 0 = z → HP g E τ σ tf S Y A (manyS S) (rowS S) (4 * manyS S) 0 → CP g E τo σo tfo S Y A0 τ A (c0 + 4 * (4 * manyS S)) (s0 + 89 * (4 * manyS S)) → xW g iX3_init_2 7 343 [some (.ref (z 0)), some (.ref (σo 0 0)), some (.ref p), X3, X4] [] A Q) : ∀ m k σ tf τ A X3 X4 cu, m + k = (4 * manyS S) → σ 0 = z → HP g E τ σ tf S Y A (manyS S) (rowS S) k 0 → CP g E τo σo tfo S Y A0 τ A (c0 + 4 * k) (s0 + 89 * k) → τ p = 9 → p < A.2.1 → A.1 p = some (xLi 21 (if k < (4 * manyS S) then some (σo 4 k) else none) cu mc (σo 0 4)) → A.1 (σo 0 4) = some (xLg t0 es (4 * manyS S) mc th ks vs hd tl) → xW g iX3_init_2 7 284 [some (.ref (z 0)), some (.ref (σo 0 0)), some (.ref p), X3, X4] [] A Q := by
  intro m
  induction m with
  | zero =>
    intro k σ tf τ A X3 X4 cu hk hz hP hC hpt hpl hp hm
    have e : k = (4 * manyS S) := by omega
    subst e
    rw [if_neg (by omega)] at hp
    refine x_aload_n dX3_init_2_284 rfl ?_
    refine x_cfV (q := (RJ43, TJ43, 5)) cfX3_89_J43 dX3_init_2_285 (Or.inl hp) rfl (c_hasNext_21_F g A p (σo 0 4) cu mc hp) rfl ?_
    refine x_if_eqT (tgt := 343) dX3_init_2_290 (by decide) (by decide) ?_
    exact K σ tf τ A X3 X4 hz hP hC
  | succ m ih =>
    intro k σ tf τ A X3 X4 cu hk hz hP hC hpt hpl hp hm
    subst hz
    have hk2 : k < (4 * manyS S) := by omega
    rw [if_pos hk2] at hp
    have hO := hC.1
    have hm11 := hO.le.1
    obtain ⟨nn, bf, hx, hxl, hxt⟩ := hO.nd hk2
    refine x_aload_n dX3_init_2_284 rfl ?_
    refine x_cfV (q := (RJ43, TJ43, 5)) cfX3_89_J43 dX3_init_2_285 (Or.inl hp) rfl (c_hasNext_21_T g A p (σo 0 4) _ cu mc hp) rfl ?_
    refine x_if_eqF dX3_init_2_290 343 (by decide) (by decide) ?_
    refine x_aload_n dX3_init_2_293 rfl ?_
    refine x_cfV (q := (RJ43, TJ43, 5)) cfX3_95_J43 dX3_init_2_294 (Or.inl hp) rfl (c_next_21 g A p (σo 4 k) k (σo 5 k) (σo 6 k) (σo 0 4) t0 es ks vs hd tl _ mc th cu nn bf _ hp hm hx) rfl ?_
    generalize hA1 : xup A p (xLi 21 (afF (σo 4) (4 * manyS S) k) (some (σo 4 k)) mc (σo 0 4)) = A1
    have s1 : hst τ A τ A1 0 0 := by rw [← hA1]; exact hst_up (by rw [hpt]; decide)
    have hP1 : HP g E τ σ tf S Y A1 (manyS S) (rowS S) k 0 := hP.ex9 s1.1.1 (fun _ _ => rfl) (fun r _ h9 => by rw [← hA1]; exact xup_ne (fun e => h9 (by rw [e]; exact hpt)))
    have hC1 := hC.st s1
    obtain ⟨nn1, bf1, hx1, -, -⟩ := hC1.1.nd hk2
    obtain ⟨g1, g2, g3, g4⟩ := hC1.1.pg hk2
    have hp1 : A1.1 p = some (xLi 21 (afF (σo 4) (4 * manyS S) k) (some (σo 4 k)) mc (σo 0 4)) := by rw [← hA1]; exact xup_self
    have hpl1 : p < A1.2.1 := by rw [← hA1]; exact hpl
    have n1 := Nat.ne_of_lt g1.2.1
    refine x_castY dX3_init_2_299 q2542 (Or.inl hx1) (q := (RJ32, TJ32, 6)) rfl (Or.inr q2554) ?_
    refine x_astore_n dX3_init_2_302 (by decide) rfl ?_
    refine x_aload_n dX3_init_2_303 rfl ?_
    refine x_get fgX3_28_2 dX3_init_2_304 (Or.inl hP1.1.2.2) rfl ?_
    refine x_aload_n dX3_init_2_307 rfl ?_
    refine x_cfV (q := (RJ32, TJ32, 6)) cfX3_124_J32 dX3_init_2_308 (Or.inl hx1) rfl (c_J31_getKey g A1 (σo 4 k) k (σo 5 k) (σo 6 k) nn1 bf1 _ hx1) rfl ?_
    refine x_castY dX3_init_2_313 q1314 (Or.inl g2.2.2) (q := (RX5, TX5, 2)) rfl (Or.inl rfl) ?_
    refine x_new nwX3_129 dX3_init_2_316 ?_
    refine x_dup dX3_init_2_319 rfl ?_
    refine x_aload_n dX3_init_2_320 rfl ?_
    have hx2 : (xal A1 (.inr (5, [.int 0, .int 0, .int 0])) 3).1 (σo 4 k) = _ := (xal_ne (Nat.ne_of_lt (Nat.lt_of_lt_of_le hxl s1.1.1))).trans hx1
    have hg2 : (xal A1 (.inr (5, [.int 0, .int 0, .int 0])) 3).1 (σo 6 k) = _ := (xal_ne n1).trans g1.2.2
    refine x_cfV (q := (RJ32, TJ32, 6)) cfX3_131_J32 dX3_init_2_321 (Or.inl hx2) rfl (c_J31_getValue g _ (σo 4 k) k (σo 5 k) (σo 6 k) nn1 bf1 _ hx2) rfl ?_
    refine x_castY dX3_init_2_326 q1330 (Or.inl hg2) (q := (RX6, TX6, 3)) rfl (Or.inl rfl) ?_
    refine x_ciN ciX3_134 dX3_init_2_329 (c_X6_init_2 g _ A1.2.1 (σo 6 k) _ _ _ xal_self hg2 n1 g3) rfl ?_
    generalize hA3 : xup (xal A1 (.inr (5, [.int 0, .int 0, .int 0])) 3) A1.2.1 (xPg (hs S (k / 4) (9 + k % 4)) (hs S (k / 4) (17 + k % 4)) (hs S (k / 4) (13 + k % 4))) = A3
    have a3 : A3.2.1 = A1.2.1 + 1 := by rw [← hA3]; rfl
    have a3s : A3.2.2 = A1.2.2 + 3 := by rw [← hA3]; rfl
    have b3 : ∀ r, r < A1.2.1 → A3.1 r = A1.1 r := fun r hr => by
      rw [← hA3]
      exact (xup_ne (show r ≠ A1.2.1 by omega)).trans (xal_ne (show r ≠ A1.2.1 by omega))
    have v3 : A3.1 A1.2.1 = some (xPg (hs S (k / 4) (9 + k % 4)) (hs S (k / 4) (17 + k % 4)) (hs S (k / 4) (13 + k % 4))) := by
      rw [← hA3]
      exact xup_self
    have t3 : ∀ r, r < A1.2.1 → tgU τ A1.2.1 (100 + k) r = τ r := fun r hr => tgU_o hr
    have s3 : hst τ A1 (tgU τ A1.2.1 (100 + k)) A3 1 3 := ⟨⟨by omega, by omega, by omega⟩, t3, fun r hr _ => b3 r hr⟩
    have hP3 : HP g E (tgU τ A1.2.1 (100 + k)) σ tf S Y A3 (manyS S) (rowS S) k 0 := hP1.ex9 (by omega) t3 (fun r hr _ => b3 r hr)
    have hC3 := hC1.st s3
    have hk3 := (hC3.1.pg hk2).2.1.2.2
    have hmp3 := hP3.2.2.2.2.2.1
    obtain ⟨es3, ks3, vs3, hM3, -⟩ := hmp3
    obtain ⟨t03, mc3, th3, tl3, hm3⟩ := hM3.m
    refine v_cvE (q := (RJ5, TJ5, 12)) cvX3_137_J5 dX3_init_2_332 (Or.inl hm3) rfl (hMp_put hP3.2.2.2.2.2.1 (by decide) hk3 (by omega) (by omega) (fun j hj => by omega)) rfl (fun w1 A4 hQ => ?_)
    obtain ⟨rfl, N', q1, q2, s4⟩ := hQ
    rw [nup_id (show 4 * (k / 4) + k % 4 = k by omega)] at q1
    refine x_castN dX3_init_2_335 ?_
    refine x_astoreN dX3_init_2_338 (by decide) rfl ?_
    refine x_goto (tgt := 284) dX3_init_2_340 (by decide) ?_
    have hC4 := hC3.st s4
    have t100 : tgU τ A1.2.1 (100 + k) A1.2.1 = 100 + k := tgU_n (Nat.le_refl _)
    have hx4 := s4.1.1
    have hko := (hC4.1.pg hk2).2.1
    have hpg : hPg g (tgU (tgU τ A1.2.1 (100 + k)) A3.2.1 5) (sg5 σ N' k (σo 5 k) A1.2.1) S A4 k := by
      unfold hPg
      rw [show sg5 σ N' k (σo 5 k) A1.2.1 5 k = σo 5 k from nup_s, show sg5 σ N' k (σo 5 k) A1.2.1 6 k = A1.2.1 from nup_s]
      exact ⟨⟨(tgU_o (by omega)).trans t100, by omega, (q2 _ (by omega) (by rw [t100]; omega)).trans v3⟩, ⟨(hC4.2.1 _ (by rw [hko.1]; decide)).2, hko.2⟩, g3, g4⟩
    have hP4 := hP3.u5 (τ' := tgU (tgU τ A1.2.1 (100 + k)) A3.2.1 5) (A' := A4) s4.1.1 (fun r hr => tgU_o hr) (fun r hr h => q2 r hr h) (N := N') (k := σo 5 k) (v := A1.2.1) q1 hpg
    have hl0 : τ (σo 0 4) = 0 := (hC.2.1 _ (by rw [hO.pmt.1]; decide)).2
    have s14 := (s1.tr s3).tr s4
    exact ih (k + 1) (sg5 σ N' k (σo 5 k) A1.2.1) _ _ A4 _ _ _ (by omega) rfl hP4 (hC4.le (by omega) (by omega)) ((tgU_o (by omega)).trans ((t3 p hpl1).trans hpt)) (by omega) ((q2 p (by omega) (by rw [t3 p hpl1, hpt]; decide)).trans ((b3 p hpl1).trans hp1)) ((s14.2.2 _ hO.pmt.2 hl0).trans hm)
/-- the forgiven -/
theorem cph4 (g : xG) (E τo : Nat → Nat) (σo : Nat → Nat → Nat) (tfo : Nat → Nat → Int32) (S Y : Nat → Int32) (A0 : xA) (hg : gW g E) (p c0 s0 : Nat) (t0 : Value) (es ks vs hd tl : Option Nat) (mc th : Int32) {Q : Outcome → xA → Prop} (z : Nat → Nat) (K : ∀ σ tf τ A X3 X4, σ 0 = z → HP g E τ σ tf S Y A (manyS S) (rowS S) (4 * manyS S) (fgN S) → CP g E τo σo tfo S Y A0 τ A (c0 + 3 * fgN S) (s0 + 86 * fgN S) → xW g iX3_init_2 7 383 [some (.ref (z 0)), some (.ref (σo 0 0)), some (.ref p), X3, X4] [] A Q) : ∀ m k σ tf τ A X3 X4 cu, m + k = fgN S → σ 0 = z → (∀ j, j < k → σ 8 j = σo 8 j) → HP g E τ σ tf S Y A (manyS S) (rowS S) (4 * manyS S) k → CP g E τo σo tfo S Y A0 τ A (c0 + 3 * k) (s0 + 86 * k) → τ p = 9 → p < A.2.1 → A.1 p = some (xLi 22 (if k < fgN S then some (σo 7 k) else none) cu mc (σo 0 6)) → A.1 (σo 0 6) = some (xLg t0 es (fgN S) mc th ks vs hd tl) → xW g iX3_init_2 7 351 [some (.ref (z 0)), some (.ref (σo 0 0)), some (.ref p), X3, X4] [] A Q := by
  intro m
  induction m with
  | zero =>
    intro k σ tf τ A X3 X4 cu hk hz hH hP hC hpt hpl hp hm
    have e : k = fgN S := by omega
    subst e
    rw [if_neg (by omega)] at hp
    refine x_aload_n dX3_init_2_351 rfl ?_
    refine x_cfV (q := (RJ44, TJ44, 5)) cfX3_89_J44 dX3_init_2_352 (Or.inl hp) rfl (c_hasNext_22_F g A p (σo 0 6) cu mc hp) rfl ?_
    refine x_if_eqT (tgt := 383) dX3_init_2_357 (by decide) (by decide) ?_
    exact K σ tf τ A X3 X4 hz hP hC
  | succ m ih =>
    intro k σ tf τ A X3 X4 cu hk hz hH hP hC hpt hpl hp hm
    subst hz
    have hk2 : k < fgN S := by omega
    rw [if_pos hk2] at hp
    have hO := hC.1
    have hf40 := hO.f19.2
    obtain ⟨⟨nn, bf, hx⟩, hq40, hqd⟩ := hO.nf hk2
    refine x_aload_n dX3_init_2_351 rfl ?_
    refine x_cfV (q := (RJ44, TJ44, 5)) cfX3_89_J44 dX3_init_2_352 (Or.inl hp) rfl (c_hasNext_22_T g A p (σo 0 6) _ cu mc hp) rfl ?_
    refine x_if_eqF dX3_init_2_357 383 (by decide) (by decide) ?_
    refine x_aload_n dX3_init_2_360 rfl ?_
    refine x_cfV (q := (RJ44, TJ44, 5)) cfX3_95_J44 dX3_init_2_361 (Or.inl hp) rfl (c_next_22 g A p (σo 7 k) (σo 8 k) (σo 9 k) (σo 10 k) (σo 0 6) t0 es ks vs hd tl _ mc th cu nn bf _ hp hm hx) rfl ?_
    generalize hA1 : xup A p (xLi 22 (afF (σo 7) (fgN S) k) (some (σo 7 k)) mc (σo 0 6)) = A1
    have s1 : hst τ A τ A1 0 0 := by rw [← hA1]; exact hst_up (by rw [hpt]; decide)
    have hP1 : HP g E τ σ tf S Y A1 (manyS S) (rowS S) (4 * manyS S) k := hP.ex9 s1.1.1 (fun _ _ => rfl) (fun r _ h9 => by rw [← hA1]; exact xup_ne (fun e => h9 (by rw [e]; exact hpt)))
    have hC1 := hC.st s1
    obtain ⟨g1, g2⟩ := hC1.1.fk hk2
    have hp1 : A1.1 p = some (xLi 22 (afF (σo 7) (fgN S) k) (some (σo 7 k)) mc (σo 0 6)) := by rw [← hA1]; exact xup_self
    have hpl1 : p < A1.2.1 := by rw [← hA1]; exact hpl
    refine x_castY dX3_init_2_366 q1314 (Or.inl g1.2.2) (q := (RX5, TX5, 2)) rfl (Or.inl rfl) ?_
    refine x_astore_n dX3_init_2_369 (by decide) rfl ?_
    refine x_aload_n dX3_init_2_370 rfl ?_
    refine x_get fgX3_35_2 dX3_init_2_371 (Or.inl hP1.1.2.2) rfl ?_
    refine x_aload_n dX3_init_2_374 rfl ?_
    have hfs := hP1.2.2.2.2.2.2.2.1
    refine v_cvE (q := (RJ8, TJ8, 1)) cvX3_142_J8 dX3_init_2_375 (Or.inl hfs.2.2) rfl (hMp_add hg hP1.2.2.2.2.2.2.2.2.1 (by decide) g1.2.2 (by omega) (by omega) (fun j hj => by rw [hH j hj, show 4 * (σo 8 k / 4) + σo 8 k % 4 = σo 8 k by omega]; exact hqd j hj) hfs.2.2) rfl (fun w1 A4 hQ => ?_)
    obtain ⟨rfl, N', q1, q2, s4⟩ := hQ
    rw [show 4 * (σo 8 k / 4) + σo 8 k % 4 = σo 8 k by omega] at q1
    refine x_istore dX3_init_2_378 (by decide) rfl ?_
    refine x_goto (tgt := 351) dX3_init_2_380 (by decide) ?_
    have hC4 := hC1.st s4
    have hx4 := s4.1.1
    have hP4 := hP1.u7 (τ' := tgU τ A1.2.1 7) (A' := A4) s4.1.1 (fun r hr => tgU_o hr) (fun r hr h => q2 r hr h) (N := N') q1 (fun j hj => by
      by_cases e : j = k
      · subst e
        rw [nup_s, nup_s]
        have hko := (hC4.1.fk hk2)
        exact ⟨⟨(hC4.2.1 _ (by rw [hko.1.1]; decide)).2, hko.1.2⟩, hko.2⟩
      · rw [nup_n e, nup_n e]
        have k1 := hP1.2.2.2.2.2.2.2.2.2 j (by omega)
        exact ⟨xT.fr k1.1 s4.1.1 (fun r hr => tgU_o hr) (fun r hr h0 => q2 r hr (by rw [h0]; decide)), k1.2⟩)
    obtain ⟨_, _, _, hM6, -⟩ := hO.fm
    have hl0 : τ (σo 0 6) = 0 := (hC.2.1 _ (by rw [hM6.1]; decide)).2
    have s14 := s1.tr s4
    exact ih (k + 1) (sg7 σ N' (nup (σ 8) k (σo 8 k)) (nup (σ 9) k (σo 9 k)) (nup (σ 10) k (E 1))) _ _ A4 _ _ _ (by omega) rfl (fun j hj => by
      show nup (σ 8) k (σo 8 k) j = _
      by_cases e : j = k
      · rw [e, nup_s]
      · rw [nup_n e]; exact hH j (by omega)) hP4 (hC4.le (by omega) (by omega)) ((tgU_o hpl1).trans hpt) (by omega) ((q2 p hpl1 (by rw [hpt]; decide)).trans hp1) ((s14.2.2 _ hM6.2.1 hl0).trans hm)

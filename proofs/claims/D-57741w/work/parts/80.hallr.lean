set_option maxRecDepth 100000
/-! COPYING A HALL: its loops -/
abbrev xF0 : xE := .inr (3, [.int 0, .int 0, .null, .null, .int 0, .int 0, .int 0])
theorem cpy4 (f : Nat → Int32) {j : Nat} (hj : j < 4) : va_cpy f (fun _ => 0) 0 0 4 j = f j := by
  unfold va_cpy
  rw [if_pos ⟨Nat.zero_le _, by omega⟩, Nat.zero_add, Nat.sub_zero]
theorem cph1 (g : xG) (E τo : Nat → Nat) (σo : Nat → Nat → Nat) (tfo : Nat → Nat → Int32) (S Y : Nat → Int32) (A0 : xA) (hg : gW g E) (mc : Int32) (ed p c0 s0 : Nat) {Q : Outcome → xA → Prop} (z : Nat → Nat) (K : ∀ σ tf τ A X3, σ 0 = z → HP g E τ σ tf S Y A (manyS S) 0 0 0 → CP g E τo σo tfo S Y A0 τ A (c0 + 3 * manyS S) (s0 + 21 * manyS S) → xW g iX3_init_2 7 219 [some (.ref (z 0)), some (.ref (σo 0 0)), some (.ref p), X3, none] [] A Q) : ∀ m k σ tf τ A X3 lr, m + k = manyS S → σ 0 = z → HP g E τ σ tf S Y A k 0 0 0 → CP g E τo σo tfo S Y A0 τ A (c0 + 3 * k) (s0 + 21 * k) → τ p = 9 → p < A.2.1 → A.1 p = some (xIt (nI k) lr mc (σo 0 2)) → A.1 (σo 0 2) = some (xAl mc ed (manyS S)) → xW g iX3_init_2 7 181 [some (.ref (z 0)), some (.ref (σo 0 0)), some (.ref p), X3, none] [] A Q := by
  intro m
  induction m with
  | zero =>
    intro k σ tf τ A X3 lr hk hz hP hC hpt hpl hp hl
    have e : k = manyS S := by omega
    subst e
    refine x_aload_n dX3_init_2_181 rfl ?_
    refine x_cfV (q := (RJ38, TJ38, 4)) cfX3_89_J38 dX3_init_2_182 (Or.inl hp) rfl (hAl_hasF hl hp) rfl ?_
    refine x_if_eqT (tgt := 219) dX3_init_2_187 (by decide) (by decide) ?_
    exact K σ tf τ A X3 hz hP hC
  | succ m ih =>
    intro k σ tf τ A X3 lr hk hz hP hC hpt hpl hp hl
    subst hz
    have hk2 : k < manyS S := by omega
    have hO := hC.1
    have hm10 := hO.le.1
    refine x_aload_n dX3_init_2_181 rfl ?_
    refine x_cfV (q := (RJ38, TJ38, 4)) cfX3_89_J38 dX3_init_2_182 (Or.inl hp) rfl (hAl_hasT hl hp hk2 (by omega)) rfl ?_
    refine x_if_eqF dX3_init_2_187 219 (by decide) (by decide) ?_
    refine x_aload_n dX3_init_2_190 rfl ?_
    refine x_cfV (q := (RJ38, TJ38, 4)) cfX3_95_J38 dX3_init_2_191 (Or.inl hp) rfl (hAl_next hO.fl hl hp hk2) rfl ?_
    generalize hA1 : xup A p (xIt (nI (k + 1)) (nI k) mc (σo 0 2)) = A1
    have s1 : hst τ A τ A1 0 0 := by rw [← hA1]; exact hst_up (by rw [hpt]; decide)
    have hP1 : HP g E τ σ tf S Y A1 k 0 0 0 := hP.ex9 s1.1.1 (fun _ _ => rfl) (fun r _ h9 => by rw [← hA1]; exact xup_ne (fun e => h9 (by rw [e]; exact hpt)))
    have hC1 := hC.st s1
    obtain ⟨f1, f2, f3, f4, f5, f6⟩ := hC1.1.fd hk2
    have hp1 : A1.1 p = some (xIt (nI (k + 1)) (nI k) mc (σo 0 2)) := by rw [← hA1]; exact xup_self
    have hpl1 : p < A1.2.1 := by rw [← hA1]; exact hpl
    have n1 := Nat.ne_of_lt f1.2.1
    have n2 := Nat.ne_of_lt f2.2.1
    refine x_castY dX3_init_2_196 q1239 (Or.inl f1.2.2) (q := (RX4, TX4, 7)) rfl (Or.inl rfl) ?_
    refine x_astore_n dX3_init_2_199 (by decide) rfl ?_
    refine x_aload_n dX3_init_2_200 rfl ?_
    refine x_get fgX3_18_2 dX3_init_2_201 (Or.inl hP1.1.2.2) rfl ?_
    refine x_new nwX3_99 dX3_init_2_204 ?_
    refine x_dup dX3_init_2_207 rfl ?_
    refine x_aload_n dX3_init_2_208 rfl ?_
    refine x_ciN ciX3_101 dX3_init_2_209 (c_X4_init_2 g (xal A1 xF0 7) A1.2.1 (σo 1 k) (σo 3 k) (σo 2 k) (nI k) (hs S k 1) (hs S k 3) (hs S k 4) (Y k) (tfo k) xal_self (Nat.lt_succ_self _) ((xal_ne n1).trans f1.2.2) ((xal_ne n2).trans f2.2.2)) rfl ?_
    generalize hw : va_cpy (tfo k) (fun _ => 0) 0 0 4 = w
    generalize hA3 : ov (xbp (xal A1 xF0 7) 4) [((xal A1 xF0 7).2.1, xI4 w), (A1.2.1, xFd (nI k) (hs S k 1) (σo 3 k) (xal A1 xF0 7).2.1 (hs S k 3) (hs S k 4) (Y k))] = A3
    have a3 : A3.2.1 = A1.2.1 + 2 := by rw [← hA3]; rfl
    have a3s : A3.2.2 = A1.2.2 + 11 := by rw [← hA3]; rfl
    have b3 : ∀ r, r < A1.2.1 → A3.1 r = A1.1 r := fun r hr => by
      rw [← hA3]
      exact (xup_ne (show r ≠ A1.2.1 + 1 by omega)).trans ((xup_ne (show r ≠ A1.2.1 by omega)).trans (xal_ne (n := 7) (show r ≠ A1.2.1 by omega)))
    have v3 : A3.1 A1.2.1 = some (xFd (nI k) (hs S k 1) (σo 3 k) (A1.2.1 + 1) (hs S k 3) (hs S k 4) (Y k)) := by
      rw [← hA3]
      exact (xup_ne (show A1.2.1 ≠ A1.2.1 + 1 by omega)).trans xup_self
    have w3 : A3.1 (A1.2.1 + 1) = some (xI4 w) := by
      rw [← hA3]
      exact xup_self
    generalize hτ3 : tgU (tgU τ A1.2.1 (20 + k)) (A1.2.1 + 1) (40 + k) = τ3
    have t3 : ∀ r, r < A1.2.1 → τ3 r = τ r := fun r hr => by rw [← hτ3]; exact (tgU_o (by omega)).trans (tgU_o hr)
    have s3 : hst τ A1 τ3 A3 2 11 := ⟨⟨by omega, by omega, by omega⟩, t3, fun r hr _ => b3 r hr⟩
    have hP3 : HP g E τ3 σ tf S Y A3 k 0 0 0 := hP1.ex9 (by omega) t3 (fun r hr _ => b3 r hr)
    have hC3 := hC1.st s3
    obtain ⟨mcl, edl, hfl, hflt, hft⟩ := hP3.2.2.1.l
    refine xW.ok (fun hok3 => ?_)
    refine v_cvE (q := (RJ2, TJ2, 3)) cvX3_104_J2 dX3_init_2_212 (Or.inl hfl) rfl (hAl_add hg hok3 hP3.2.2.1 (by omega) v3 (cl1 := (RX4, TX4, 7)) rfl (Or.inr q4293) (by decide)) rfl (fun w1 A4 hQ => ?_)
    obtain ⟨rfl, q1, q2, q3⟩ := hQ
    refine x_pop dX3_init_2_215 rfl ?_
    refine x_goto (tgt := 181) dX3_init_2_216 (by decide) ?_
    have s4 : hst τ3 A3 (tgU τ3 A3.2.1 3) A4 1 10 := ⟨q3, fun r hr => tgU_o hr, fun r hr h0 => q2 r hr (by rw [h0]; decide)⟩
    have hC4 := hC3.st s4
    have t20 : τ3 A1.2.1 = 20 + k := by rw [← hτ3]; exact (tgU_o (by omega)).trans (tgU_n (Nat.le_refl _))
    have t40 : τ3 (A1.2.1 + 1) = 40 + k := by rw [← hτ3]; exact tgU_n (Nat.le_refl _)
    have hx4 := q3.1
    have hfn : hFd g (tgU τ3 A3.2.1 3) (sg3 σ k A1.2.1 (A1.2.1 + 1) (σo 3 k)) (tfU tf k w) S Y A4 k := by
      unfold hFd
      rw [show sg3 σ k A1.2.1 (A1.2.1 + 1) (σo 3 k) 1 k = A1.2.1 from nup_s, show sg3 σ k A1.2.1 (A1.2.1 + 1) (σo 3 k) 2 k = A1.2.1 + 1 from nup_s, show sg3 σ k A1.2.1 (A1.2.1 + 1) (σo 3 k) 3 k = σo 3 k from nup_s, tfU_s]
      refine ⟨⟨(tgU_o (by omega)).trans t20, by omega, (q2 _ (by omega) (by rw [t20]; omega)).trans v3⟩, ⟨(tgU_o (by omega)).trans t40, by omega, (q2 _ (by omega) (by rw [t40]; omega)).trans w3⟩, fun hc j hj => by rw [← hw, cpy4 _ hj]; exact f3 hc j hj, f4, f5, (hC4.1.fd hk2).2.2.2.2.2.ct (fun r hr => (hC4.2.1 r (by rw [hr]; decide)).2)⟩
    have hP4 := hP3.u3 (τ' := tgU τ3 A3.2.1 3) (A' := A4) q3.1 (fun r hr => tgU_o hr) (fun r hr h => q2 r hr h) (fun p hp => absurd hp (Nat.not_lt_zero _)) (a := A1.2.1) (b := A1.2.1 + 1) (c := σo 3 k) (w := w) q1 hfn
    have hlt0 := hO.fl.l
    obtain ⟨_, _, _, hll, hlt⟩ := hO.fl.l
    have hl0 : τ (σo 0 2) = 0 := (hC.2.1 _ (by rw [hlt]; decide)).2
    have s14 := (s1.tr s3).tr s4
    exact ih (k + 1) (sg3 σ k A1.2.1 (A1.2.1 + 1) (σo 3 k)) _ _ A4 _ _ (by omega) rfl hP4 (hC4.le (by omega) (by omega)) ((tgU_o (by omega)).trans ((t3 p hpl1).trans hpt)) (by omega) ((q2 p (by omega) (by rw [t3 p hpl1, hpt]; decide)).trans ((b3 p hpl1).trans hp1)) ((s14.2.2 _ hll hl0).trans hl)
/-- the row -/
theorem cph2 (g : xG) (E τo : Nat → Nat) (σo : Nat → Nat → Nat) (tfo : Nat → Nat → Int32) (S Y : Nat → Int32) (A0 : xA) (hg : gW g E) (mc : Int32) (ed p c0 s0 : Nat) {Q : Outcome → xA → Prop} (z : Nat → Nat) (K : ∀ σ tf τ A X3, σ 0 = z → HP g E τ σ tf S Y A (manyS S) (rowS S) 0 0 → CP g E τo σo tfo S Y A0 τ A (c0 + rowS S) (s0 + 10 * rowS S) → xW g iX3_init_2 7 271 [some (.ref (z 0)), some (.ref (σo 0 0)), some (.ref p), X3, none] [] A Q) : ∀ m k σ tf τ A X3 lr, m + k = rowS S → σ 0 = z → HP g E τ σ tf S Y A (manyS S) k 0 0 → CP g E τo σo tfo S Y A0 τ A (c0 + k) (s0 + 10 * k) → τ p = 9 → p < A.2.1 → A.1 p = some (xIt (nI k) lr mc (σo 0 3)) → A.1 (σo 0 3) = some (xAl mc ed (rowS S)) → xW g iX3_init_2 7 227 [some (.ref (z 0)), some (.ref (σo 0 0)), some (.ref p), X3, none] [] A Q := by
  intro m
  induction m with
  | zero =>
    intro k σ tf τ A X3 lr hk hz hP hC hpt hpl hp hl
    have e : k = rowS S := by omega
    subst e
    refine x_aload_n dX3_init_2_227 rfl ?_
    refine x_cfV (q := (RJ38, TJ38, 4)) cfX3_89_J38 dX3_init_2_228 (Or.inl hp) rfl (hAl_hasF hl hp) rfl ?_
    refine x_if_eqT (tgt := 271) dX3_init_2_233 (by decide) (by decide) ?_
    exact K σ tf τ A X3 hz hP hC
  | succ m ih =>
    intro k σ tf τ A X3 lr hk hz hP hC hpt hpl hp hl
    subst hz
    have hk2 : k < rowS S := by omega
    have hO := hC.1
    have hm10 := hO.le.2
    have hm11 := hO.le.1
    have hpk := hO.pl hk2
    refine x_aload_n dX3_init_2_227 rfl ?_
    refine x_cfV (q := (RJ38, TJ38, 4)) cfX3_89_J38 dX3_init_2_228 (Or.inl hp) rfl (hAl_hasT hl hp hk2 (by omega)) rfl ?_
    refine x_if_eqF dX3_init_2_233 271 (by decide) (by decide) ?_
    refine x_aload_n dX3_init_2_236 rfl ?_
    refine x_cfV (q := (RJ38, TJ38, 4)) cfX3_95_J38 dX3_init_2_237 (Or.inl hp) rfl (hAl_next hO.rl hl hp hk2) rfl ?_
    generalize hA1 : xup A p (xIt (nI (k + 1)) (nI k) mc (σo 0 3)) = A1
    have s1 : hst τ A τ A1 0 0 := by rw [← hA1]; exact hst_up (by rw [hpt]; decide)
    have hP1 : HP g E τ σ tf S Y A1 (manyS S) k 0 0 := hP.ex9 s1.1.1 (fun _ _ => rfl) (fun r _ h9 => by rw [← hA1]; exact xup_ne (fun e => h9 (by rw [e]; exact hpt)))
    have hC1 := hC.st s1
    have f1 := (hC1.1.fd hpk).1.2.2
    have hp1 : A1.1 p = some (xIt (nI (k + 1)) (nI k) mc (σo 0 3)) := by rw [← hA1]; exact xup_self
    have hpl1 : p < A1.2.1 := by rw [← hA1]; exact hpl
    have v3 := (hP1.2.2.2.2.1 _ hpk).1.2.2
    refine x_castY dX3_init_2_242 q1239 (Or.inl f1) (q := (RX4, TX4, 7)) rfl (Or.inl rfl) ?_
    refine x_astore_n dX3_init_2_245 (by decide) rfl ?_
    refine x_aload_n dX3_init_2_246 rfl ?_
    refine x_get fgX3_22_2 dX3_init_2_247 (Or.inl hP1.1.2.2) rfl ?_
    refine x_aload_n dX3_init_2_250 rfl ?_
    refine x_get fgX3_18_2 dX3_init_2_251 (Or.inl hP1.1.2.2) rfl ?_
    refine x_aload_n dX3_init_2_254 rfl ?_
    refine x_get fgX3_108_3 dX3_init_2_255 (Or.inl f1) rfl ?_
    obtain ⟨mcf, edf, hfl, hflt, hft⟩ := hP1.2.2.1.l
    refine x_cvV (q := (RJ2, TJ2, 3)) cvX3_111_J2 dX3_init_2_258 (Or.inl hfl) rfl (hAl_get hP1.2.2.1 hpk) rfl ?_
    refine x_castY dX3_init_2_261 q1239 (Or.inl v3) (q := (RX4, TX4, 7)) rfl (Or.inl rfl) ?_
    obtain ⟨mcl, edl, hrl, hrlt, hrt⟩ := hP1.2.2.2.1.l
    refine xW.ok (fun hok1 => ?_)
    refine v_cvE (q := (RJ2, TJ2, 3)) cvX3_104_J2 dX3_init_2_264 (Or.inl hrl) rfl (hAl_add hg hok1 hP1.2.2.2.1 (by omega) v3 (cl1 := (RX4, TX4, 7)) rfl (Or.inr q4293) (by decide)) rfl (fun w1 A4 hQ => ?_)
    obtain ⟨rfl, q1, q2, q3⟩ := hQ
    refine x_pop dX3_init_2_267 rfl ?_
    refine x_goto (tgt := 227) dX3_init_2_268 (by decide) ?_
    have s4 : hst τ A1 (tgU τ A1.2.1 4) A4 1 10 := ⟨q3, fun r hr => tgU_o hr, fun r hr h0 => q2 r hr (by rw [h0]; decide)⟩
    have hC4 := hC1.st s4
    have hP4 := hP1.u4 (τ' := tgU τ A1.2.1 4) (A' := A4) q3.1 (fun r hr => tgU_o hr) (fun r hr h => q2 r hr h) (q1.cg (x' := fun p => σ 1 (plS S p)) (fun i hi => by
      by_cases e : i = k
      · subst e
        rw [nup_s]
      · rw [nup_n e]))
    obtain ⟨_, _, _, hll, hlt⟩ := hO.rl.l
    have hl0 : τ (σo 0 3) = 0 := (hC.2.1 _ (by rw [hlt]; decide)).2
    have s14 := s1.tr s4
    have hx4 := q3.1
    exact ih (k + 1) _ _ _ A4 _ _ (by omega) rfl hP4 (hC4.le (by omega) (by omega)) ((tgU_o hpl1).trans hpt) (by omega) ((q2 p hpl1 (by rw [hpt]; decide)).trans hp1) ((s14.2.2 _ hll hl0).trans hl)

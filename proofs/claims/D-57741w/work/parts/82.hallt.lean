set_option maxRecDepth 100000
/-! COPYING A HALL: from the empty one on -/
theorem ov_bp (A : xA) (n : Nat) (ws : List (Nat × xE)) : xbp (ov A ws) n = ov (xbp A n) ws := by
  refine Prod.ext (ov_bp1 A n ws).symm ?_
  rw [ov_2]
  show ((ov A ws).2.1 + 1, (ov A ws).2.2 + n) = _
  rw [ov_2]
  rfl
theorem ov_mk2 {A : xA} {ws : List (Nat × xE)} {q n : Nat} {e0 y a : xE} : ov (xbp (ov A ((q, e0) :: ws)) n) [((ov A ((q, e0) :: ws)).2.1, a), (q, y)] = ov (xbp A n) ((A.2.1, a) :: (q, y) :: ws) := by
  show xup (xup (xbp (xup (ov A ws) q e0) n) q y) (ov A ((q, e0) :: ws)).2.1 a = xup (xup (ov (xbp A n) ws) q y) A.2.1 a
  rw [ov_2, xbp_up, xup_xup, ov_bp]
theorem cpz (g : xG) (E τo : Nat → Nat) (σo : Nat → Nat → Nat) (tfo : Nat → Nat → Int32) (S Y : Nat → Int32) (A0 : xA) (hg : gW g E) (z0 : Nat) (σ : Nat → Nat → Nat) (tf : Nat → Nat → Int32) (τ : Nat → Nat) (A : xA) (hz0 : σ 0 0 = z0) (hP : HP g E τ σ tf S Y A 0 0 0 0) (hC : CP g E τo σo tfo S Y A0 τ A 7 53) : xW g iX3_init_2 7 173 [some (.ref z0), some (.ref (σo 0 0)), none, none, none] [] A (xRs fun w A' => w = none ∧ ∃ τ' σ' tf', σ' 0 0 = z0 ∧ HB g E τ' σ' tf' S Y A' ∧ xlv A0 τ' A' ∧ (∀ r, r < A0.2.1 → τ' r = 0) ∧ xBd A0 A' 340 7400) := by
  subst hz0
  have hst9 : ∀ {τ : Nat → Nat} {A : xA} {e : xE} {n : Nat}, hst τ A (tgU τ A.2.1 9) (xal A e n) 1 n := hst_al
  have hk := hC.1.ok
  have h19 := hC.1.f19
  have hle := hC.1.le
  generalize hz : σ 0 = z
  refine x_aload_n dX3_init_2_173 rfl ?_
  refine x_get fgX3_18_2 dX3_init_2_174 (Or.inl hC.1.h) rfl ?_
  obtain ⟨mc1, ed1, hl1, hll1, hlt1⟩ := hC.1.fl.l
  refine x_cvV (q := (RJ2, TJ2, 3)) cvX3_85_J2 dX3_init_2_177 (Or.inl hl1) rfl (c_J2_iterator g A _ ed1 _ mc1 hl1 hll1) rfl ?_
  refine x_astore_n dX3_init_2_180 (by decide) rfl ?_
  refine cph1 g E τo σo tfo S Y A0 hg mc1 ed1 A.2.1 8 57 z (fun σ tf τ A X3 hz hP hC => ?_) (manyS S) 0 σ tf (tgU τ A.2.1 9) (xal A (xIt 0 (-1) mc1 (σo 0 2)) 4) none (-1) (by omega) hz (hP.ex9 (Nat.le_succ _) (fun r hr => tgU_o hr) (fun r hr _ => xal_ne (Nat.ne_of_lt hr))) ((hC.st hst9).le (by omega) (by omega)) (tgU_n (Nat.le_refl _)) (Nat.lt_succ_self _) xal_self ((xal_ne (Nat.ne_of_lt hll1)).trans hl1)
  refine x_aload_n dX3_init_2_219 rfl ?_
  refine x_get fgX3_22_2 dX3_init_2_220 (Or.inl hC.1.h) rfl ?_
  obtain ⟨mc1, ed1, hl1, hll1, hlt1⟩ := hC.1.rl.l
  refine x_cvV (q := (RJ2, TJ2, 3)) cvX3_85_J2 dX3_init_2_223 (Or.inl hl1) rfl (c_J2_iterator g A _ ed1 _ mc1 hl1 hll1) rfl ?_
  refine x_astore_n dX3_init_2_226 (by decide) rfl ?_
  refine cph2 g E τo σo tfo S Y A0 hg mc1 ed1 A.2.1 (8 + 3 * manyS S + 1) (57 + 21 * manyS S + 4) z (fun σ tf τ A X3 hz hP hC => ?_) (rowS S) 0 σ tf (tgU τ A.2.1 9) (xal A (xIt 0 (-1) mc1 (σo 0 3)) 4) X3 (-1) (by omega) hz (hP.ex9 (Nat.le_succ _) (fun r hr => tgU_o hr) (fun r hr _ => xal_ne (Nat.ne_of_lt hr))) ((hC.st hst9).le (by omega) (by omega)) (tgU_n (Nat.le_refl _)) (Nat.lt_succ_self _) xal_self ((xal_ne (Nat.ne_of_lt hll1)).trans hl1)
  refine x_aload_n dX3_init_2_271 rfl ?_
  refine x_get fgX3_28_2 dX3_init_2_272 (Or.inl hC.1.h) rfl ?_
  obtain ⟨es, ks, vs, hM, v1, v2, v3⟩ := hC.1.pm
  obtain ⟨t0, mc, th, tl, hm⟩ := hM.m
  refine v_cvE (q := (RJ5, TJ5, 12)) cvX3_115_J5 dX3_init_2_275 (Or.inl hm) rfl (c_J5_entrySet_v g A _ t0 es ks vs _ tl _ mc th hm hM.2.1 (fun w hw => ⟨(v1 w hw).2.2, (v1 w hw).2.1⟩)) rfl (fun u A1 hQ => ?_)
  obtain ⟨w, rfl, b1, b2, b3, b4, b5⟩ := hQ
  have hC1 := hC.vw b4 b5
  have hP1 := hP.lv b4
  have hml := Nat.lt_of_lt_of_le hM.2.1 b4.1
  refine x_cfV (q := (RJ39, TJ39, 2)) cfX3_119_J39 dX3_init_2_278 (Or.inl b1) rfl (c_J39_iterator g A1 w _ t0 (some w) ks vs _ tl _ mc th b1 b3 hml b2) rfl ?_
  refine x_astore_n dX3_init_2_283 (by decide) rfl ?_
  refine cph3 g E _ σo tfo S Y A0 hg A1.2.1 (8 + 3 * manyS S + 1 + rowS S + 2) (57 + 21 * manyS S + 4 + 10 * rowS S + 7) t0 (some w) ks vs _ tl mc th z (fun σ tf τ A X3 X4 hz hP hC => ?_) (4 * manyS S) 0 σ tf (tgU (tgU τ A.2.1 0) A1.2.1 9) (xal A1 (xLi 21 (hdF (σo 4) (4 * manyS S)) none mc (σo 0 4)) 5) X3 none none (by omega) hz (hP1.ex9 (Nat.le_succ _) (fun r hr => tgU_o hr) (fun r hr _ => xal_ne (Nat.ne_of_lt hr))) ((hC1.st hst9).le (by omega) (by omega)) (tgU_n (Nat.le_refl _)) (Nat.lt_succ_self _) (xal_self.trans (by
    congr 5
    unfold hdF
    by_cases e : 4 * manyS S = 0
    · rw [if_pos e, if_neg (by omega)]
    · rw [if_neg e, if_pos (by omega)])) ((xal_ne (Nat.ne_of_lt hml)).trans b3)
  refine x_aload_n dX3_init_2_343 rfl ?_
  refine x_get fgX3_35_2 dX3_init_2_344 (Or.inl hC.1.h) rfl ?_
  obtain ⟨es, ks, vs, hM, v1, v2, v3⟩ := hC.1.fm
  obtain ⟨t0, mc, th, tl, hm⟩ := hM.m
  have hfs := hC.1.fs.2.2
  refine v_cvE (q := (RJ8, TJ8, 1)) cvX3_141_J8 dX3_init_2_347 (Or.inl hfs) rfl (c_J7_iterator_v g A _ _ t0 es ks vs _ tl _ mc th hfs hm hM.2.1 (fun w hw => ⟨(v2 w hw).2.2, (v2 w hw).2.1⟩)) rfl (fun u A2 hQ => ?_)
  obtain ⟨w, A1, rfl, b3, b4, b5, rfl⟩ := hQ
  have hC1 := hC.vw b4 b5
  have hP1 := hP.lv b4
  have hml := Nat.lt_of_lt_of_le hM.2.1 b4.1
  refine x_astore_n dX3_init_2_350 (by decide) rfl ?_
  refine cph4 g E _ σo tfo S Y A0 hg A1.2.1 (8 + 3 * manyS S + 1 + rowS S + 2 + 4 * (4 * manyS S) + 2) (57 + 21 * manyS S + 4 + 10 * rowS S + 7 + 89 * (4 * manyS S) + 7) t0 es (some w) vs _ tl mc th z (fun σ tf τ A X3 X4 hz hP hC => ?_) (fgN S) 0 σ tf (tgU (tgU τ A.2.1 0) A1.2.1 9) (xal A1 (xLi 22 (hdF (σo 7) (fgN S)) none mc (σo 0 6)) 5) X3 X4 none (by omega) hz (fun j hj => absurd hj (Nat.not_lt_zero _)) (hP1.ex9 (Nat.le_succ _) (fun r hr => tgU_o hr) (fun r hr _ => xal_ne (Nat.ne_of_lt hr))) ((hC1.st hst9).le (by omega) (by omega)) (tgU_n (Nat.le_refl _)) (Nat.lt_succ_self _) (xal_self.trans (by
    congr 5
    unfold hdF
    by_cases e : fgN S = 0
    · rw [if_pos e, if_neg (by omega)]
    · rw [if_neg e, if_pos (by omega)])) ((xal_ne (Nat.ne_of_lt hml)).trans b3)
  have h340 : CP g E _ σo tfo S Y A0 τ A 340 7400 := hC.le (by omega) (by omega)
  exact x_return dX3_init_2_383 rfl ⟨_, rfl, rfl, τ, σ, tf, by rw [hz], hP.hb rfl rfl rfl rfl hk h19.1 h19.2, h340.2.2.1, h340.2.2.2.1, h340.2.2.2.2⟩
abbrev xH0 : xE := .inr (2, [.int 0, .int 0, .int 0, .int 0, .int 0, .int 0, .int 0, .int 0, .int 0, .int 0, .int 0, .int 0, .int 0, .null, .null, .null, .null, .null])
theorem xCpW_X3 : xCpW "FiddleRow$Hall" 79 := ⟨q2268, q454, q453, q153⟩
abbrev xH7 (A : xA) (E : Nat → Nat) (hc : xE) (sf : Nat → Int32) : List (Nat × xE) := [(A.2.1 + 6, xLg .null none 0 0 (nI 16) none none none none), (A.2.1 + 5, .inr (13, [.ref (A.2.1 + 6)])), (A.2.1 + 4, xLg .null none 0 0 (nI 0) none none none none), (A.2.1 + 3, xAl 0 (E 0) 0), (A.2.1 + 2, xAl 0 (E 0) 0), (A.2.1 + 1, xI4 sf), (A.2.1, hc)]
abbrev xB7 (A : xA) : xA := (xbp (xbp (xbp (xbp (xbp (xbp (xbp A 18) 4) 3) 3) 12) 1) 12)
theorem xH7_D {A : xA} : ovD [A.2.1 + 6, A.2.1 + 5, A.2.1 + 4, A.2.1 + 3, A.2.1 + 2, A.2.1 + 1, A.2.1] := by
  refine ⟨fun b hb => ?_, fun b hb => ?_, fun b hb => ?_, fun b hb => ?_, fun b hb => ?_, fun b hb => ?_, fun b hb => ?_, trivial⟩ <;> simp at hb <;> omega
theorem xH7_o {A : xA} {E : Nat → Nat} {hc : xE} {sf : Nat → Int32} {r : Nat} (hr : r < A.2.1) : (ov (xB7 A) (xH7 A E hc sf)).1 r = A.1 r := ov_out (by intro b hb; simp at hb; omega)
theorem pre_X3_init (g : xG) (A : xA) (E : Nat → Nat) (hg : gW g E) (x0 : Int32) (x1 : Int32) (x2 : Int32) (x3 : Int32) {Q : Outcome → xA → Prop} (K : xW g iX3_init 6 55 [some (.ref A.2.1), some (.int x0), some (.int x1), some (.int x2), some (.int x3)] [] (ov (xB7 A) (xH7 A E (.inr (2, [.int 0, .int 0, .int 0, .int 0, .int 0, .int 0, .int 0, .int 0, .int 0, .int 0, .int 0, .int 0, .int 0, .ref (A.2.1 + 1), .ref (A.2.1 + 2), .ref (A.2.1 + 3), .ref (A.2.1 + 4), .ref (A.2.1 + 5)])) (fun _ => 0))) Q) : xW g iX3_init 6 0 [some (.ref A.2.1), some (.int x0), some (.int x1), some (.int x2), some (.int x3)] [] (xal A xH0 18) Q := by
  refine xW.eqA (show _ = ov (xbp A 18) [(A.2.1, xH0)] from rfl) ?_
  have hD : ovD [A.2.1] := ovD_1
  have hL : ovL (A.2.1 + 1) [A.2.1] := fun b hb => by simp at hb; omega
  refine x_aload_n dX3_init_0 rfl ?_
  refine x_objInit q216 q204 q205 dX3_init_1 (by decide) (by exact Nat.le_of_ble_eq_true rfl) ?_
  refine x_aload_n dX3_init_4 rfl ?_
  refine x_iconst (v := 4) dX3_init_5 rfl ?_
  refine v_newa (Or.inl ⟨rfl, rfl, rfl⟩) q246 dX3_init_6 (by decide) (N' := 4) (by decide) (by decide) ?_
  have hD2_1 := ovD_cons hL hD
  have hL2_1 := ovL_cons hL
  refine v_putF hD2_1 (i := 1) rfl fFX3_9_2 rfl dX3_init_8 ⟨rfl, rfl⟩ (by exact Nat.le_of_ble_eq_true rfl) ?_
  refine x_aload_n dX3_init_11 rfl ?_
  refine v_new nwX3_15 dX3_init_12 ?_
  have hD3_2 := ovD_cons hL2_1 hD2_1
  have hL3_2 := ovL_cons hL2_1
  refine x_dup dX3_init_15 rfl ?_
  refine x_ciN ciX3_17 dX3_init_16 (c_J2_init _ _ E hg _ _ _ (by exact ov_at hD3_2 (i := 0) rfl)) rfl ?_
  refine xW.eqA (ov_up hD3_2 (i := 0) rfl) ?_
  refine v_putF hD3_2 (i := 2) rfl fFX3_18_2 rfl dX3_init_19 ⟨rfl, rfl⟩ (by exact Nat.le_of_ble_eq_true rfl) ?_
  refine x_aload_n dX3_init_22 rfl ?_
  refine v_new nwX3_15 dX3_init_23 ?_
  have hD4_3 := ovD_cons hL3_2 hD3_2
  have hL4_3 := ovL_cons hL3_2
  refine x_dup dX3_init_26 rfl ?_
  refine x_ciN ciX3_17 dX3_init_27 (c_J2_init _ _ E hg _ _ _ (by exact ov_at hD4_3 (i := 0) rfl)) rfl ?_
  refine xW.eqA (ov_up hD4_3 (i := 0) rfl) ?_
  refine v_putF hD4_3 (i := 3) rfl fFX3_22_2 rfl dX3_init_30 ⟨rfl, rfl⟩ (by exact Nat.le_of_ble_eq_true rfl) ?_
  refine x_aload_n dX3_init_33 rfl ?_
  refine v_new nwX3_25 dX3_init_34 ?_
  have hD5_4 := ovD_cons hL4_3 hD4_3
  have hL5_4 := ovL_cons hL4_3
  refine x_dup dX3_init_37 rfl ?_
  refine x_ciN ciX3_27 dX3_init_38 (c_J5_init _ _ _ (by exact ov_at hD5_4 (i := 0) rfl)) rfl ?_
  refine xW.eqA (ov_up hD5_4 (i := 0) rfl) ?_
  refine v_putF hD5_4 (i := 4) rfl fFX3_28_2 rfl dX3_init_41 ⟨rfl, rfl⟩ (by exact Nat.le_of_ble_eq_true rfl) ?_
  refine x_aload_n dX3_init_44 rfl ?_
  refine v_new nwX3_32 dX3_init_45 ?_
  have hD6_5 := ovD_cons hL5_4 hD5_4
  have hL6_5 := ovL_cons hL5_4
  refine x_dup dX3_init_48 rfl ?_
  refine x_ciN ciX3_34 dX3_init_49 (c_J8_init _ _ _ (by exact ov_at hD6_5 (i := 0) rfl) (by rw [ov_2]; exact Nat.lt_succ_self _)) rfl ?_
  refine xW.eqA ov_mk2 ?_
  have hD7_6 := ovD_cons hL6_5 hD6_5
  have hL7_6 := ovL_cons hL6_5
  refine v_putF hD7_6 (i := 6) rfl fFX3_35_2 rfl dX3_init_52 ⟨rfl, rfl⟩ (by exact Nat.le_of_ble_eq_true rfl) ?_
  exact K
theorem pre_X3_init_2 (g : xG) (A : xA) (E : Nat → Nat) (hg : gW g E) (o : Nat) {Q : Outcome → xA → Prop} (K : xW g iX3_init_2 7 55 [some (.ref A.2.1), some (.ref o), none, none, none] [] (ov (xB7 A) (xH7 A E (.inr (2, [.int 0, .int 0, .int 0, .int 0, .int 0, .int 0, .int 0, .int 0, .int 0, .int 0, .int 0, .int 0, .int 0, .ref (A.2.1 + 1), .ref (A.2.1 + 2), .ref (A.2.1 + 3), .ref (A.2.1 + 4), .ref (A.2.1 + 5)])) (fun _ => 0))) Q) : xW g iX3_init_2 7 0 [some (.ref A.2.1), some (.ref o), none, none, none] [] (xal A xH0 18) Q := by
  refine xW.eqA (show _ = ov (xbp A 18) [(A.2.1, xH0)] from rfl) ?_
  have hD : ovD [A.2.1] := ovD_1
  have hL : ovL (A.2.1 + 1) [A.2.1] := fun b hb => by simp at hb; omega
  refine x_aload_n dX3_init_2_0 rfl ?_
  refine x_objInit q216 q204 q205 dX3_init_2_1 (by decide) (by exact Nat.le_of_ble_eq_true rfl) ?_
  refine x_aload_n dX3_init_2_4 rfl ?_
  refine x_iconst (v := 4) dX3_init_2_5 rfl ?_
  refine v_newa (Or.inl ⟨rfl, rfl, rfl⟩) q246 dX3_init_2_6 (by decide) (N' := 4) (by decide) (by decide) ?_
  have hD2_1 := ovD_cons hL hD
  have hL2_1 := ovL_cons hL
  refine v_putF hD2_1 (i := 1) rfl fFX3_9_2 rfl dX3_init_2_8 ⟨rfl, rfl⟩ (by exact Nat.le_of_ble_eq_true rfl) ?_
  refine x_aload_n dX3_init_2_11 rfl ?_
  refine v_new nwX3_15 dX3_init_2_12 ?_
  have hD3_2 := ovD_cons hL2_1 hD2_1
  have hL3_2 := ovL_cons hL2_1
  refine x_dup dX3_init_2_15 rfl ?_
  refine x_ciN ciX3_17 dX3_init_2_16 (c_J2_init _ _ E hg _ _ _ (by exact ov_at hD3_2 (i := 0) rfl)) rfl ?_
  refine xW.eqA (ov_up hD3_2 (i := 0) rfl) ?_
  refine v_putF hD3_2 (i := 2) rfl fFX3_18_2 rfl dX3_init_2_19 ⟨rfl, rfl⟩ (by exact Nat.le_of_ble_eq_true rfl) ?_
  refine x_aload_n dX3_init_2_22 rfl ?_
  refine v_new nwX3_15 dX3_init_2_23 ?_
  have hD4_3 := ovD_cons hL3_2 hD3_2
  have hL4_3 := ovL_cons hL3_2
  refine x_dup dX3_init_2_26 rfl ?_
  refine x_ciN ciX3_17 dX3_init_2_27 (c_J2_init _ _ E hg _ _ _ (by exact ov_at hD4_3 (i := 0) rfl)) rfl ?_
  refine xW.eqA (ov_up hD4_3 (i := 0) rfl) ?_
  refine v_putF hD4_3 (i := 3) rfl fFX3_22_2 rfl dX3_init_2_30 ⟨rfl, rfl⟩ (by exact Nat.le_of_ble_eq_true rfl) ?_
  refine x_aload_n dX3_init_2_33 rfl ?_
  refine v_new nwX3_25 dX3_init_2_34 ?_
  have hD5_4 := ovD_cons hL4_3 hD4_3
  have hL5_4 := ovL_cons hL4_3
  refine x_dup dX3_init_2_37 rfl ?_
  refine x_ciN ciX3_27 dX3_init_2_38 (c_J5_init _ _ _ (by exact ov_at hD5_4 (i := 0) rfl)) rfl ?_
  refine xW.eqA (ov_up hD5_4 (i := 0) rfl) ?_
  refine v_putF hD5_4 (i := 4) rfl fFX3_28_2 rfl dX3_init_2_41 ⟨rfl, rfl⟩ (by exact Nat.le_of_ble_eq_true rfl) ?_
  refine x_aload_n dX3_init_2_44 rfl ?_
  refine v_new nwX3_32 dX3_init_2_45 ?_
  have hD6_5 := ovD_cons hL5_4 hD5_4
  have hL6_5 := ovL_cons hL5_4
  refine x_dup dX3_init_2_48 rfl ?_
  refine x_ciN ciX3_34 dX3_init_2_49 (c_J8_init _ _ _ (by exact ov_at hD6_5 (i := 0) rfl) (by rw [ov_2]; exact Nat.lt_succ_self _)) rfl ?_
  refine xW.eqA ov_mk2 ?_
  have hD7_6 := ovD_cons hL6_5 hD6_5
  have hL7_6 := ovL_cons hL6_5
  refine v_putF hD7_6 (i := 6) rfl fFX3_35_2 rfl dX3_init_2_52 ⟨rfl, rfl⟩ (by exact Nat.le_of_ble_eq_true rfl) ?_
  exact K
theorem mid_X3 (g : xG) (A : xA) (E τo : Nat → Nat) (σo : Nat → Nat → Nat) (tfo : Nat → Nat → Int32) (S Y : Nat → Int32) (hB : HB g E τo σo tfo S Y A) {Q : Outcome → xA → Prop} (K : ∀ sf, (∀ k, k < 4 → sf k = S (9 + k)) → xW g iX3_init_2 7 173 [some (.ref A.2.1), some (.ref (σo 0 0)), none, none, none] [] (ov (xB7 A) (xH7 A E (xHl S (A.2.1 + 1) (A.2.1 + 2) (A.2.1 + 3) (A.2.1 + 4) (A.2.1 + 5)) sf)) Q) : xW g iX3_init_2 7 55 [some (.ref A.2.1), some (.ref (σo 0 0)), none, none, none] [] (ov (xB7 A) (xH7 A E (.inr (2, [.int 0, .int 0, .int 0, .int 0, .int 0, .int 0, .int 0, .int 0, .int 0, .int 0, .int 0, .int 0, .int 0, .ref (A.2.1 + 1), .ref (A.2.1 + 2), .ref (A.2.1 + 3), .ref (A.2.1 + 4), .ref (A.2.1 + 5)])) (fun _ => 0))) Q := by
  have hO := hB.h
  have hol := hB.1.2.1
  obtain ⟨sf, hsf, hsq⟩ := hB.2.1
  have hsl := hsf.2.1
  have hA : ∀ {hc : xE} {s9 : Nat → Int32}, xAt g (ov (xB7 A) (xH7 A E hc s9)) (σo 0 0) _ := Or.inl ((xH7_o hol).trans hO)
  have hU : ∀ {hc hc' : xE} {s9 : Nat → Int32}, xup (ov (xB7 A) (xH7 A E hc s9)) A.2.1 hc' = ov (xB7 A) (xH7 A E hc' s9) := ov_up xH7_D (i := 6) rfl
  have hH : ∀ {hc : xE} {s9 : Nat → Int32}, (ov (xB7 A) (xH7 A E hc s9)).1 A.2.1 = some hc := ov_at xH7_D (i := 6) rfl
  refine x_aload_n dX3_init_2_55 rfl ?_
  refine x_aload_n dX3_init_2_56 rfl ?_
  refine x_get fgX3_39_2 dX3_init_2_57 hA rfl ?_
  refine x_put fpX3_39_2 dX3_init_2_60 hH ⟨rfl, rfl⟩ (by exact Nat.le_of_ble_eq_true rfl) ?_
  refine xW.eqA hU ?_
  refine xW.eqA (show _ = ov (xB7 A) (xH7 A E (.inr (2, [.int 0, .int (S 1), .int 0, .int 0, .int 0, .int 0, .int 0, .int 0, .int 0, .int 0, .int 0, .int 0, .int 0, .ref (A.2.1 + 1), .ref (A.2.1 + 2), .ref (A.2.1 + 3), .ref (A.2.1 + 4), .ref (A.2.1 + 5)])) (fun _ => 0)) from rfl) ?_
  refine x_aload_n dX3_init_2_63 rfl ?_
  refine x_aload_n dX3_init_2_64 rfl ?_
  refine x_get fgX3_43_2 dX3_init_2_65 hA rfl ?_
  refine x_put fpX3_43_2 dX3_init_2_68 hH ⟨rfl, rfl⟩ (by exact Nat.le_of_ble_eq_true rfl) ?_
  refine xW.eqA hU ?_
  refine xW.eqA (show _ = ov (xB7 A) (xH7 A E (.inr (2, [.int 0, .int (S 1), .int (S 2), .int 0, .int 0, .int 0, .int 0, .int 0, .int 0, .int 0, .int 0, .int 0, .int 0, .ref (A.2.1 + 1), .ref (A.2.1 + 2), .ref (A.2.1 + 3), .ref (A.2.1 + 4), .ref (A.2.1 + 5)])) (fun _ => 0)) from rfl) ?_
  refine x_aload_n dX3_init_2_71 rfl ?_
  refine x_aload_n dX3_init_2_72 rfl ?_
  refine x_get fgX3_46_2 dX3_init_2_73 hA rfl ?_
  refine x_put fpX3_46_2 dX3_init_2_76 hH ⟨rfl, rfl⟩ (by exact Nat.le_of_ble_eq_true rfl) ?_
  refine xW.eqA hU ?_
  refine xW.eqA (show _ = ov (xB7 A) (xH7 A E (.inr (2, [.int 0, .int (S 1), .int (S 2), .int (S 3), .int 0, .int 0, .int 0, .int 0, .int 0, .int 0, .int 0, .int 0, .int 0, .ref (A.2.1 + 1), .ref (A.2.1 + 2), .ref (A.2.1 + 3), .ref (A.2.1 + 4), .ref (A.2.1 + 5)])) (fun _ => 0)) from rfl) ?_
  refine x_aload_n dX3_init_2_79 rfl ?_
  refine x_aload_n dX3_init_2_80 rfl ?_
  refine x_get fgX3_49_2 dX3_init_2_81 hA rfl ?_
  refine x_put fpX3_49_2 dX3_init_2_84 hH ⟨rfl, rfl⟩ (by exact Nat.le_of_ble_eq_true rfl) ?_
  refine xW.eqA hU ?_
  refine xW.eqA (show _ = ov (xB7 A) (xH7 A E (.inr (2, [.int 0, .int (S 1), .int (S 2), .int (S 3), .int (S 4), .int 0, .int 0, .int 0, .int 0, .int 0, .int 0, .int 0, .int 0, .ref (A.2.1 + 1), .ref (A.2.1 + 2), .ref (A.2.1 + 3), .ref (A.2.1 + 4), .ref (A.2.1 + 5)])) (fun _ => 0)) from rfl) ?_
  refine x_aload_n dX3_init_2_87 rfl ?_
  refine x_aload_n dX3_init_2_88 rfl ?_
  refine x_get fgX3_52_2 dX3_init_2_89 hA rfl ?_
  refine x_putF fFX3_52_2 rfl dX3_init_2_92 hH ⟨rfl, rfl⟩ (by exact Nat.le_of_ble_eq_true rfl) ?_
  refine xW.eqA hU ?_
  refine xW.eqA (show _ = ov (xB7 A) (xH7 A E (.inr (2, [.int 0, .int (S 1), .int (S 2), .int (S 3), .int (S 4), .int 0, .int 0, .int 0, .int 0, .int 0, .int 0, .int (S 5), .int 0, .ref (A.2.1 + 1), .ref (A.2.1 + 2), .ref (A.2.1 + 3), .ref (A.2.1 + 4), .ref (A.2.1 + 5)])) (fun _ => 0)) from rfl) ?_
  refine x_aload_n dX3_init_2_95 rfl ?_
  refine x_aload_n dX3_init_2_96 rfl ?_
  refine x_get fgX3_55_2 dX3_init_2_97 hA rfl ?_
  refine x_putF fFX3_55_2 rfl dX3_init_2_100 hH ⟨rfl, rfl⟩ (by exact Nat.le_of_ble_eq_true rfl) ?_
  refine xW.eqA hU ?_
  refine xW.eqA (show _ = ov (xB7 A) (xH7 A E (.inr (2, [.int 0, .int (S 1), .int (S 2), .int (S 3), .int (S 4), .int 0, .int 0, .int 0, .int 0, .int 0, .int 0, .int (S 5), .int (S 6), .ref (A.2.1 + 1), .ref (A.2.1 + 2), .ref (A.2.1 + 3), .ref (A.2.1 + 4), .ref (A.2.1 + 5)])) (fun _ => 0)) from rfl) ?_
  refine x_aload_n dX3_init_2_103 rfl ?_
  refine x_aload_n dX3_init_2_104 rfl ?_
  refine x_get fgX3_58_2 dX3_init_2_105 hA rfl ?_
  refine x_put fpX3_58_2 dX3_init_2_108 hH ⟨rfl, rfl⟩ (by exact Nat.le_of_ble_eq_true rfl) ?_
  refine xW.eqA hU ?_
  refine xW.eqA (show _ = ov (xB7 A) (xH7 A E (.inr (2, [.int (S 0), .int (S 1), .int (S 2), .int (S 3), .int (S 4), .int 0, .int 0, .int 0, .int 0, .int 0, .int 0, .int (S 5), .int (S 6), .ref (A.2.1 + 1), .ref (A.2.1 + 2), .ref (A.2.1 + 3), .ref (A.2.1 + 4), .ref (A.2.1 + 5)])) (fun _ => 0)) from rfl) ?_
  refine x_aload_n dX3_init_2_111 rfl ?_
  refine x_aload_n dX3_init_2_112 rfl ?_
  refine x_get fgX3_61_2 dX3_init_2_113 hA rfl ?_
  refine x_put fpX3_61_2 dX3_init_2_116 hH ⟨rfl, rfl⟩ (by exact Nat.le_of_ble_eq_true rfl) ?_
  refine xW.eqA hU ?_
  refine xW.eqA (show _ = ov (xB7 A) (xH7 A E (.inr (2, [.int (S 0), .int (S 1), .int (S 2), .int (S 3), .int (S 4), .int (S 15), .int 0, .int 0, .int 0, .int 0, .int 0, .int (S 5), .int (S 6), .ref (A.2.1 + 1), .ref (A.2.1 + 2), .ref (A.2.1 + 3), .ref (A.2.1 + 4), .ref (A.2.1 + 5)])) (fun _ => 0)) from rfl) ?_
  refine x_aload_n dX3_init_2_119 rfl ?_
  refine x_aload_n dX3_init_2_120 rfl ?_
  refine x_get fgX3_64_2 dX3_init_2_121 hA rfl ?_
  refine x_put fpX3_64_2 dX3_init_2_124 hH ⟨rfl, rfl⟩ (by exact Nat.le_of_ble_eq_true rfl) ?_
  refine xW.eqA hU ?_
  refine xW.eqA (show _ = ov (xB7 A) (xH7 A E (.inr (2, [.int (S 0), .int (S 1), .int (S 2), .int (S 3), .int (S 4), .int (S 15), .int (S 16), .int 0, .int 0, .int 0, .int 0, .int (S 5), .int (S 6), .ref (A.2.1 + 1), .ref (A.2.1 + 2), .ref (A.2.1 + 3), .ref (A.2.1 + 4), .ref (A.2.1 + 5)])) (fun _ => 0)) from rfl) ?_
  refine x_aload_n dX3_init_2_127 rfl ?_
  refine x_aload_n dX3_init_2_128 rfl ?_
  refine x_get fgX3_67_2 dX3_init_2_129 hA rfl ?_
  refine x_put fpX3_67_2 dX3_init_2_132 hH ⟨rfl, rfl⟩ (by exact Nat.le_of_ble_eq_true rfl) ?_
  refine xW.eqA hU ?_
  refine xW.eqA (show _ = ov (xB7 A) (xH7 A E (.inr (2, [.int (S 0), .int (S 1), .int (S 2), .int (S 3), .int (S 4), .int (S 15), .int (S 16), .int (S 17), .int 0, .int 0, .int 0, .int (S 5), .int (S 6), .ref (A.2.1 + 1), .ref (A.2.1 + 2), .ref (A.2.1 + 3), .ref (A.2.1 + 4), .ref (A.2.1 + 5)])) (fun _ => 0)) from rfl) ?_
  refine x_aload_n dX3_init_2_135 rfl ?_
  refine x_aload_n dX3_init_2_136 rfl ?_
  refine x_get fgX3_70_2 dX3_init_2_137 hA rfl ?_
  refine x_put fpX3_70_2 dX3_init_2_140 hH ⟨rfl, rfl⟩ (by exact Nat.le_of_ble_eq_true rfl) ?_
  refine xW.eqA hU ?_
  refine xW.eqA (show _ = ov (xB7 A) (xH7 A E (.inr (2, [.int (S 0), .int (S 1), .int (S 2), .int (S 3), .int (S 4), .int (S 15), .int (S 16), .int (S 17), .int (S 18), .int 0, .int 0, .int (S 5), .int (S 6), .ref (A.2.1 + 1), .ref (A.2.1 + 2), .ref (A.2.1 + 3), .ref (A.2.1 + 4), .ref (A.2.1 + 5)])) (fun _ => 0)) from rfl) ?_
  refine x_aload_n dX3_init_2_143 rfl ?_
  refine x_aload_n dX3_init_2_144 rfl ?_
  refine x_get fgX3_73_2 dX3_init_2_145 hA rfl ?_
  refine x_put fpX3_73_2 dX3_init_2_148 hH ⟨rfl, rfl⟩ (by exact Nat.le_of_ble_eq_true rfl) ?_
  refine xW.eqA hU ?_
  refine xW.eqA (show _ = ov (xB7 A) (xH7 A E (.inr (2, [.int (S 0), .int (S 1), .int (S 2), .int (S 3), .int (S 4), .int (S 15), .int (S 16), .int (S 17), .int (S 18), .int (S 7), .int 0, .int (S 5), .int (S 6), .ref (A.2.1 + 1), .ref (A.2.1 + 2), .ref (A.2.1 + 3), .ref (A.2.1 + 4), .ref (A.2.1 + 5)])) (fun _ => 0)) from rfl) ?_
  refine x_aload_n dX3_init_2_151 rfl ?_
  refine x_aload_n dX3_init_2_152 rfl ?_
  refine x_get fgX3_76_2 dX3_init_2_153 hA rfl ?_
  refine x_put fpX3_76_2 dX3_init_2_156 hH ⟨rfl, rfl⟩ (by exact Nat.le_of_ble_eq_true rfl) ?_
  refine xW.eqA hU ?_
  refine xW.eqA (show _ = ov (xB7 A) (xH7 A E (.inr (2, [.int (S 0), .int (S 1), .int (S 2), .int (S 3), .int (S 4), .int (S 15), .int (S 16), .int (S 17), .int (S 18), .int (S 7), .int (S 8), .int (S 5), .int (S 6), .ref (A.2.1 + 1), .ref (A.2.1 + 2), .ref (A.2.1 + 3), .ref (A.2.1 + 4), .ref (A.2.1 + 5)])) (fun _ => 0)) from rfl) ?_
  refine x_aload_n dX3_init_2_159 rfl ?_
  refine x_get fgX3_9_2 dX3_init_2_160 hA rfl ?_
  refine x_iconst (v := 0) dX3_init_2_163 rfl ?_
  refine x_aload_n dX3_init_2_164 rfl ?_
  refine x_get fgX3_9_2 dX3_init_2_165 (Or.inl hH) rfl ?_
  refine x_iconst (v := 0) dX3_init_2_168 rfl ?_
  refine x_iconst (v := 4) dX3_init_2_169 rfl ?_
  refine x_copyi (t := 0) xCpW_X3 rfl rfl (Or.inl ((xH7_o hsl).trans hsf.2.2)) (ov_at xH7_D (i := 5) rfl) (by decide) (by decide) (by decide) (by decide) (by decide) (fun _ _ => rfl) (by decide) (by exact Nat.le_of_ble_eq_true rfl) dX3_init_2_170 ?_
  refine xW.eqA (ov_up xH7_D (i := 5) rfl) ?_
  exact K _ (fun k hk => (cpy4 sf hk).trans (hsq k hk))
theorem c_X3_init_2 (g : xG) (A : xA) (E τo : Nat → Nat) (σo : Nat → Nat → Nat) (tfo : Nat → Nat → Int32) (S Y : Nat → Int32) (hg : gW g E) (hB : HB g E τo σo tfo S Y A) : xC g iX3_init_2 7 [.ref A.2.1, .ref (σo 0 0)] (xal A xH0 18) (xRs fun w A' => w = none ∧ ∃ τ' σ' tf', σ' 0 0 = A.2.1 ∧ HB g E τ' σ' tf' S Y A' ∧ xlv A τ' A' ∧ (∀ r, r < A.2.1 → τ' r = 0) ∧ xBd A A' 340 7400) := by
  show xW g _ _ 0 [some (.ref A.2.1), some (.ref (σo 0 0)), none, none, none] [] _ _
  refine pre_X3_init_2 g A E hg _ (mid_X3 g A E τo σo tfo S Y hB (fun sf hsf => ?_))
  have h2 : (ov (xB7 A) (xH7 A E (xHl S (A.2.1 + 1) (A.2.1 + 2) (A.2.1 + 3) (A.2.1 + 4) (A.2.1 + 5)) sf)).2 = (A.2.1 + 7, A.2.2 + 53) := ov_2 _ _
  have hn : (ov (xB7 A) (xH7 A E (xHl S (A.2.1 + 1) (A.2.1 + 2) (A.2.1 + 3) (A.2.1 + 4) (A.2.1 + 5)) sf)).2.1 = A.2.1 + 7 := by rw [h2]
  have hs : (ov (xB7 A) (xH7 A E (xHl S (A.2.1 + 1) (A.2.1 + 2) (A.2.1 + 3) (A.2.1 + 4) (A.2.1 + 5)) sf)).2.2 = A.2.2 + 53 := by rw [h2]
  have hold : ∀ r, r < A.2.1 → (ov (xB7 A) (xH7 A E (xHl S (A.2.1 + 1) (A.2.1 + 2) (A.2.1 + 3) (A.2.1 + 4) (A.2.1 + 5)) sf)).1 r = A.1 r := fun r hr => xH7_o hr
  refine cpz g E (tgU τo A.2.1 9) σo tfo S Y A hg A.2.1 (sg0 A.2.1) (fun _ _ => 0) (tg0 A.2.1) _ rfl (HP.mk0 (n := A.2.1) (by rw [hn]; exact Nat.le_refl _) (ov_at xH7_D (i := 6) rfl) (ov_at xH7_D (i := 5) rfl) hsf (ov_at xH7_D (i := 4) rfl) (ov_at xH7_D (i := 3) rfl) (ov_at xH7_D (i := 2) rfl) (ov_at xH7_D (i := 1) rfl) (ov_at xH7_D (i := 0) rfl)) ?_
  refine ⟨hB.ext (by omega) (fun r hr => tgU_o hr) hold, fun r hr => ?_, xlv.of (by omega) hold, fun r hr => tg0_o hr, by omega, by omega, by omega⟩
  by_cases hr2 : r < A.2.1
  · exact ⟨by omega, tg0_o hr2⟩
  · exact absurd (tgU_n (by omega)) hr
theorem c_X3_copy (g : xG) (A : xA) (E τo : Nat → Nat) (σo : Nat → Nat → Nat) (tfo : Nat → Nat → Int32) (S Y : Nat → Int32) (hg : gW g E) (hB : HB g E τo σo tfo S Y A) : xC g iX3_copy 8 [.ref (σo 0 0)] A (xRs fun w A' => w = some (.ref A.2.1) ∧ ∃ τ' σ' tf', σ' 0 0 = A.2.1 ∧ HB g E τ' σ' tf' S Y A' ∧ xlv A τ' A' ∧ (∀ r, r < A.2.1 → τ' r = 0) ∧ xBd A A' 340 7400) := by
  show xW g _ _ 0 [some (.ref (σo 0 0))] [] _ _
  refine x_new nwX3_10 dX3_copy_0 ?_
  refine x_dup dX3_copy_3 rfl ?_
  refine x_aload_n dX3_copy_4 rfl ?_
  refine v_ciE ciX3_143 dX3_copy_5 (c_X3_init_2 g A E τo σo tfo S Y hg hB) rfl (fun w A1 hP => ?_)
  obtain ⟨rfl, τ', σ', tf', h1, h2, h3, h4, h5⟩ := hP
  exact x_areturn dX3_copy_8 rfl (Or.inl ⟨_, rfl⟩) (Or.inr ⟨_, rfl⟩) ⟨_, rfl, rfl, τ', σ', tf', h1, h2, h3, h4, h5⟩

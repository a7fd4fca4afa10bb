set_option maxRecDepth 100000
/-! A HALL CHANGES: hours -/
theorem va_rf_i {a b : Option Nat} (h : va_rf a = va_rf b) : a = b := by
  cases a <;> cases b <;> first | rfl | (injection h with h; rw [h]) | cases h
theorem xLg_inj {t0 t0' : Value} {es ks vs hd tl es' ks' vs' hd' tl' : Option Nat} {c c' : Nat} {mc th mc' th' : Int32} (h : xLg t0 es c mc th ks vs hd tl = xLg t0' es' c' mc' th' ks' vs' hd' tl') : t0 = t0' ∧ mc = mc' ∧ th = th' ∧ hd = hd' ∧ tl = tl' := by
  injection h with h
  injection h with _ h
  injection h with z1 h
  injection h with z2 h
  injection h with z3 h
  injection h with z4 h
  injection h with z5 h
  injection h with z6 h
  injection h with z7 h
  injection h with z8 h
  injection h with z9 h
  injection h with z10 h
  injection z4 with z4
  injection z5 with z5
  exact ⟨z1, z4, z5, va_rf_i z9, va_rf_i z10⟩
section H9
variable {g : xG} {E τ τ' : Nat → Nat} {σ : Nat → Nat → Nat} {tf : Nat → Nat → Int32} {S Y : Nat → Int32} {A A' : xA}
/-- tag 9: iterators, nobody's -/
theorem HB.ex9 (h : HB g E τ σ tf S Y A) (hx : A.2.1 ≤ A'.2.1) (ht : ∀ r, r < A.2.1 → τ' r = τ r) (h0 : ∀ r, r < A.2.1 → τ r ≠ 9 → A'.1 r = A.1 r) : HB g E τ' σ tf S Y A' := by
  have hle := h.le
  obtain ⟨a1, ⟨sf, a2, a3⟩, a4, a5, a6, a7, a8, a9, a10, a11, a12⟩ := h
  have h1 : ∀ t, t ≠ 9 → ∀ r, r < A.2.1 → τ r = t → A'.1 r = A.1 r := fun t h9 r hr e => h0 r hr (by rw [e]; exact h9)
  exact ⟨a1.fr hx ht (h1 _ (by omega)), ⟨sf, a2.fr hx ht (h1 _ (by omega)), a3⟩, a4.fr hx ht (h1 _ (by omega)), a5.fr hx ht (h1 _ (by omega)), fun i hi => (a6 i hi).fr hx ht (h1 _ (by omega)) (fun r a b => h0 r a (by omega)) (fun _ _ => rfl) rfl, a7.fr hx ht (h1 _ (by omega)) (h1 _ (by omega)), fun k hk => (a8 k hk).fr hx ht (h1 _ (by omega)) (h1 _ (by omega)) (fun _ _ => rfl), a9.fr hx ht (h1 _ (by omega)), a10.fr hx ht (h1 _ (by omega)) (h1 _ (by omega)), fun j hj => ⟨xT.fr (a11 j hj).1 hx ht (h1 _ (by omega)), (a11 j hj).2⟩, a12⟩
theorem HB.nd (h : HB g E τ σ tf S Y A) {j : Nat} (hj : j < 4 * manyS S) : ∃ nn bf, A.1 (σ 4 j) = some (xNd j (σ 5 j) (σ 6 j) nn bf (afF (σ 4) (4 * manyS S) j)) ∧ σ 4 j < A.2.1 ∧ τ (σ 4 j) = 5 := by
  obtain ⟨es, ks, vs, hM, -⟩ := h.pm
  obtain ⟨nn, bf, k1, k2, k3⟩ := hM.n hj
  exact ⟨nn, bf, k1, k2, k3⟩
theorem HB.pmt (h : HB g E τ σ tf S Y A) : τ (σ 0 4) = 5 ∧ σ 0 4 < A.2.1 := by
  obtain ⟨es, ks, vs, hM, -⟩ := h.pm
  exact ⟨hM.1, hM.2.1⟩
end H9
def hoL (w : Int32) : Nat → (Nat → Int32) → (Nat → Int32)
  | 0, S => S
  | k + 1, S => hoK (k / 4) w (k % 4) (hoL w k S)
theorem hoL_S (w : Int32) (S : Nat → Int32) : ∀ n, hoL w (4 * n) S = hoS n w S
  | 0 => rfl
  | n + 1 => by
    show hoK ((4 * n + 3) / 4) w ((4 * n + 3) % 4) (hoK ((4 * n + 2) / 4) w ((4 * n + 2) % 4) (hoK ((4 * n + 1) / 4) w ((4 * n + 1) % 4) (hoK ((4 * n) / 4) w ((4 * n) % 4) (hoL w (4 * n) S)))) = hoF n w (hoS n w S)
    rw [hoL_S w S n, show (4 * n + 3) / 4 = n by omega, show (4 * n + 2) / 4 = n by omega, show (4 * n + 1) / 4 = n by omega, show (4 * n) / 4 = n by omega, show (4 * n + 3) % 4 = 3 by omega, show (4 * n + 2) % 4 = 2 by omega, show (4 * n + 1) % 4 = 1 by omega, show (4 * n) % 4 = 0 by omega]
    rfl
theorem hoK_o {f k i : Nat} {w : Int32} {S : Nat → Int32} (h : i ≠ 70 + 21 * f + (9 + k)) : hoK f w k S i = S i := by
  unfold hoK
  split
  · rfl
  · exact (upd_ne _ _ h).trans (upd_ne _ _ h)
theorem hoK_9 {f k : Nat} {w : Int32} {S : Nat → Int32} {gr : Nat} (hg : gr ≤ 9) (hgr : hs S f (17 + k) = nI gr) (hb : hs S f (13 + k) = 0 ∨ hs S f (13 + k) = 1) (hk : k < 4) : hs (hoK f w k S) f (9 + k) = chD (chD (hs S f (9 + k)) (hs S f (13 + k)) (-w * S (9 + k))) (hs S f (13 + k)) (mnI 0 (hs S f (17 + k) - 5)) := by
  unfold hoK
  by_cases h1 : hs S f (13 + k) = 1
  · rw [if_pos h1, h1, chD_1 (by decide), chD_1 (by decide)]
  · have h0 := hb.resolve_right h1
    rw [if_neg h1, h0, chD_0 rfl, chD_0 rfl]
    unfold shiftsS
    rw [hs_sus, hs_sus, hs_su (by omega), hgr]
    exact congrArg clI (congrArg _ (mn_gI 5 (by decide) gr hg).symm)
theorem hoK_hd {f k : Nat} {w : Int32} {S : Nat → Int32} : hdE S (hoK f w k S) := fun i hi => hoK_o (by omega)
theorem cp_wm (S : Nat → Int32) : cpI (S 2) (S 1) = wmS S := by
  unfold cpI wmS
  by_cases h1 : S 2 < S 1
  · rw [if_pos h1, if_neg (fun h => by rw [Int32.lt_iff_toInt_lt] at h h1; omega), if_pos h1]
  · rw [if_neg h1, if_neg h1]
    by_cases h2 : S 2 = S 1
    · rw [if_pos h2, if_neg (fun h => by rw [h2, Int32.lt_iff_toInt_lt] at h; omega)]
    · rw [if_neg h2, if_pos (by
        rw [Int32.lt_iff_toInt_lt] at h1 ⊢
        have : (S 2).toInt ≠ (S 1).toInt := fun e => h2 (Int32.toInt_inj.mp e)
        omega)]
theorem hoL_hd {w : Int32} {S : Nat → Int32} : ∀ k, hdE S (hoL w k S)
  | 0 => hdE.rf
  | k + 1 => (hoL_hd k).tr hoK_hd
theorem hoL_lo {w : Int32} {S : Nat → Int32} {i : Nat} (h : i < 70) : ∀ k, hoL w k S i = S i
  | 0 => rfl
  | k + 1 => (hoK_o (by omega)).trans (hoL_lo h k)
theorem ph_l (g : xG) (E τ : Nat → Nat) (σ : Nat → Nat → Nat) (tf : Nat → Nat → Int32) (S Y : Nat → Int32) (w : Int32) (p : Nat) (t0 : Value) (es ks vs tl : Option Nat) (mc th : Int32) (hpt : τ p = 9) : ∀ m j cu X3 X4 (A : xA), m + j = 4 * manyS S → HB g E τ σ tf (hoL w j S) Y A → p < A.2.1 → A.1 p = some (xLi 21 (if j < 4 * manyS S then some (σ 4 j) else none) cu mc (σ 0 4)) → A.1 (σ 0 4) = some (xLg t0 es (4 * manyS S) mc th ks vs (hdF (σ 4) (4 * manyS S)) tl) → xW g iX3_passHour 6 45 [some (.ref (σ 0 0)), some (.int w), some (.ref p), X3, X4] [] A (xRs fun u A' => u = none ∧ HB g E τ σ tf (hoL w (4 * manyS S) S) Y A' ∧ hst τ A τ A' 0 0) := by
  intro m
  induction m with
  | zero =>
    intro j cu X3 X4 A hj hB hpl hp hm
    have e : j = 4 * manyS S := by omega
    subst e
    rw [if_neg (by omega)] at hp
    refine x_aload_n dX3_passHour_45 rfl ?_
    refine x_cfV (q := (RJ43, TJ43, 5)) cfX3_89_J43 dX3_passHour_46 (Or.inl hp) rfl (c_hasNext_21_F g A p (σ 0 4) cu mc hp) rfl ?_
    refine x_if_eqT (tgt := 108) dX3_passHour_51 (by decide) (by decide) ?_
    exact x_return dX3_passHour_108 rfl ⟨_, rfl, rfl, hB, hst.rf⟩
  | succ m ih =>
    intro j cu X3 X4 A hj hB hpl hp hm
    have hj2 : j < 4 * manyS S := by omega
    have hmm : manyS (hoL w j S) = manyS S := (hoL_hd j).many
    rw [if_pos hj2] at hp
    have hq : j % 4 < 4 := Nat.mod_lt _ (by omega)
    have hf : j / 4 < manyS (hoL w j S) := by rw [hmm]; omega
    obtain ⟨nn, bf, hx, hxl, hxt⟩ := hB.nd (j := j) (by rw [hmm]; exact hj2)
    rw [hmm] at hx
    refine x_aload_n dX3_passHour_45 rfl ?_
    refine x_cfV (q := (RJ43, TJ43, 5)) cfX3_89_J43 dX3_passHour_46 (Or.inl hp) rfl (c_hasNext_21_T g A p (σ 0 4) _ cu mc hp) rfl ?_
    refine x_if_eqF dX3_passHour_51 108 (by decide) (by decide) ?_
    refine x_aload_n dX3_passHour_54 rfl ?_
    refine x_cfV (q := (RJ43, TJ43, 5)) cfX3_95_J43 dX3_passHour_55 (Or.inl hp) rfl (c_next_21 g A p (σ 4 j) j (σ 5 j) (σ 6 j) (σ 0 4) t0 es ks vs (hdF (σ 4) (4 * manyS S)) tl _ mc th cu nn bf _ hp hm hx) rfl ?_
    generalize hA1 : xup A p (xLi 21 (afF (σ 4) (4 * manyS S) j) (some (σ 4 j)) mc (σ 0 4)) = A1
    have f1 : ∀ r, τ r ≠ 9 → A1.1 r = A.1 r := fun r hr => by rw [← hA1]; exact xup_ne (fun e => hr (by rw [e]; exact hpt))
    have f2 : A1.2 = A.2 := by rw [← hA1]; rfl
    have hB1 : HB g E τ σ tf (hoL w j S) Y A1 := hB.ex9 (by rw [f2]; exact Nat.le_refl _) (fun _ _ => rfl) (fun r _ hr => f1 r hr)
    have hx1 : A1.1 (σ 4 j) = _ := (f1 _ (by rw [hxt]; decide)).trans hx
    have hk1 : A1.1 (σ 5 j) = _ := (hB1.pg (k := j) (by rw [hmm]; exact hj2)).2.1.2.2
    have hp1 : A1.1 p = some (xLi 21 (afF (σ 4) (4 * manyS S) j) (some (σ 4 j)) mc (σ 0 4)) := by rw [← hA1]; exact xup_self
    have hpA : A1.1 (σ 6 j) = _ := (hB1.pg (k := j) (by rw [hmm]; exact hj2)).1.2.2
    obtain ⟨hbr, gr, hg, hgr⟩ := hB1.pB hf hq
    obtain ⟨sf, hsf, hsq⟩ := hB1.2.1
    refine x_castY dX3_passHour_60 q2542 (Or.inl hx1) (q := (RJ32, TJ32, 6)) rfl (Or.inr q2554) ?_
    refine x_astore_n dX3_passHour_63 (by decide) rfl ?_
    refine x_aload_n dX3_passHour_64 rfl ?_
    refine x_cfV (q := (RJ32, TJ32, 6)) cfX3_131_J32 dX3_passHour_65 (Or.inl hx1) rfl (c_J31_getValue g A1 (σ 4 j) j (σ 5 j) (σ 6 j) nn bf _ hx1) rfl ?_
    refine x_castY dX3_passHour_70 q1330 (Or.inl hpA) (q := (RX6, TX6, 3)) rfl (Or.inl rfl) ?_
    refine x_astore dX3_passHour_73 (by decide) rfl ?_
    refine x_aload dX3_passHour_75 rfl ?_
    refine x_iload_n dX3_passHour_77 rfl ?_
    refine x_ineg dX3_passHour_78 ?_
    refine x_aload_n dX3_passHour_79 rfl ?_
    refine x_get fgX3_9_2 dX3_passHour_80 (Or.inl hB1.h) rfl ?_
    refine x_aload_n dX3_passHour_83 rfl ?_
    refine x_cfV (q := (RJ32, TJ32, 6)) cfX3_124_J32 dX3_passHour_84 (Or.inl hx1) rfl (c_J31_getKey g A1 (σ 4 j) j (σ 5 j) (σ 6 j) nn bf _ hx1) rfl ?_
    refine x_castY dX3_passHour_89 q1314 (Or.inl hk1) (q := (RX5, TX5, 2)) rfl (Or.inl rfl) ?_
    refine x_get fgX3_246_4 dX3_passHour_92 (Or.inl hk1) rfl ?_
    refine x_iald dX3_passHour_95 (Or.inl hsf.2.2) (vp_in_nI (n := j % 4) hq (by omega)) ?_
    refine x_top (y := S (9 + j % 4)) (by rw [nI_clamp (by omega), hsq _ hq, hoL_lo (by omega)]) ?_
    refine x_imul dX3_passHour_96 ?_
    refine x_cvN (q := (RX6, TX6, 3)) cvX3_249_X6 dX3_passHour_97 (Or.inl hpA) rfl (c_X6_change g A1 (σ 6 j) _ _ _ _ hpA) rfl ?_
    refine x_aload dX3_passHour_100 rfl ?_
    refine x_cvN (q := (RX6, TX6, 3)) cvX3_253_X6 dX3_passHour_102 (Or.inl xup_self) rfl (c_X6_hold g _ (σ 6 j) _ _ _ xup_self) rfl ?_
    refine xW.eqA xup_xup ?_
    refine x_goto (tgt := 45) dX3_passHour_105 (by decide) ?_
    have hB2 := hB1.up (S' := hoL w (j + 1) S) hf hq (fun i hi => hoK_o (fun e => hi (Or.inl e))) (by rw [show hs (hoL w (j + 1) S) (j / 4) (13 + j % 4) = hs (hoL w j S) (j / 4) (13 + j % 4) from hoK_o (by omega)]; exact hbr) (by rw [show hs (hoL w (j + 1) S) (j / 4) (17 + j % 4) = hs (hoL w j S) (j / 4) (17 + j % 4) from hoK_o (by omega)]; exact ⟨gr, hg, hgr⟩)
    rw [show hs (hoL w (j + 1) S) (j / 4) (13 + j % 4) = hs (hoL w j S) (j / 4) (13 + j % 4) from hoK_o (by omega), show hs (hoL w (j + 1) S) (j / 4) (17 + j % 4) = hs (hoL w j S) (j / 4) (17 + j % 4) from hoK_o (by omega), show hs (hoL w (j + 1) S) (j / 4) (9 + j % 4) = _ from hoK_9 hg hgr hbr hq, hoL_lo (by omega) j, show 4 * (j / 4) + j % 4 = j by omega] at hB2
    have t6 : τ (σ 6 j) = 100 + j := (hB1.pg (k := j) (by rw [hmm]; exact hj2)).1.1
    generalize he2 : xPg (chD (chD (hs (hoL w j S) (j / 4) (9 + j % 4)) (hs (hoL w j S) (j / 4) (13 + j % 4)) (-w * S (9 + j % 4))) (hs (hoL w j S) (j / 4) (13 + j % 4)) (mnI 0 (hs (hoL w j S) (j / 4) (17 + j % 4) - 5))) (hs (hoL w j S) (j / 4) (17 + j % 4)) (hs (hoL w j S) (j / 4) (13 + j % 4)) = e2 at hB2 ⊢
    have hm1 : A1.1 (σ 0 4) = _ := (f1 _ (by rw [hB.pmt.1]; decide)).trans hm
    refine xW.imp (ih (j + 1) (some (σ 4 j)) _ _ (xup A1 (σ 6 j) e2) (by omega) hB2 (by show p < A1.2.1; rw [f2]; exact hpl) ((xup_ne (fun e => by rw [e, t6] at hpt; omega)).trans hp1) ((xup_ne (fun e => by have := hB.pmt.1; rw [e, t6] at this; omega)).trans hm1)) (fun o A' hP => ?_)
    obtain ⟨u, e1, e3, k1, k2⟩ := hP
    have s1 : hst τ A τ A1 0 0 := ⟨⟨by rw [f2]; exact Nat.le_refl _, by rw [f2]; exact Nat.le_refl _, by rw [f2]; exact Nat.le_refl _⟩, fun _ _ => rfl, fun r _ h0 => f1 r (by rw [h0]; decide)⟩
    have s2 : hst τ A1 τ (xup A1 (σ 6 j) e2) 0 0 := hst_up (by rw [t6]; omega)
    exact ⟨u, e1, e3, k1, (s1.tr s2).tr k2⟩
theorem c_X3_passHour (g : xG) (A : xA) (E τ : Nat → Nat) (σ : Nat → Nat → Nat) (tf : Nat → Nat → Int32) (S Y : Nat → Int32) (hB : HB g E τ σ tf S Y A) : xC g iX3_passHour 6 [.ref (σ 0 0)] A (xRs fun u A' => u = none ∧ ∃ τ', HB g E τ' σ tf (hour1S S) Y A' ∧ hst τ A τ' A' 2 7) := by
  refine xW.ok (fun hok => ?_)
  generalize hS1 : upd S 0 (S 0 + 1) = S1
  have hB1 : HB g E τ σ tf S1 Y (xup A (σ 0 0) (xHl S1 (σ 0 1) (σ 0 2) (σ 0 3) (σ 0 4) (σ 0 5))) := hB.uh (fun i hi => by rw [← hS1]; exact upd_ne _ _ (by omega))
  generalize hS2 : upd S1 1 (S1 1 + wmS S1) = S2
  have hB2 := hB1.uh (S' := S2) (fun i hi => by rw [← hS2]; exact upd_ne _ _ (by omega))
  have s2 := (hst_up (A := A) (τ := τ) (e := xHl S1 (σ 0 1) (σ 0 2) (σ 0 3) (σ 0 4) (σ 0 5)) (h_t hB)).tr (hst_up (e := xHl S2 (σ 0 1) (σ 0 2) (σ 0 3) (σ 0 4) (σ 0 5)) (h_t hB))
  have hw : hour1S S = hoL (wmS S1) (4 * manyS S2) S2 := by
    rw [hoL_S, ← hS2, ← hS1]
    rfl
  have hok2 : xOk g (xup (xup A (σ 0 0) (xHl S1 (σ 0 1) (σ 0 2) (σ 0 3) (σ 0 4) (σ 0 5))) (σ 0 0) (xHl S2 (σ 0 1) (σ 0 2) (σ 0 3) (σ 0 4) (σ 0 5))) := (hok.up hB.h).up hB1.h
  generalize hA2 : xup (xup A (σ 0 0) (xHl S1 (σ 0 1) (σ 0 2) (σ 0 3) (σ 0 4) (σ 0 5))) (σ 0 0) (xHl S2 (σ 0 1) (σ 0 2) (σ 0 3) (σ 0 4) (σ 0 5)) = A2 at hB2 s2 hok2
  show xW g _ _ 0 [some (.ref (σ 0 0)), none, none, none, none] [] _ _
  refine x_aload_n dX3_passHour_0 rfl ?_
  refine x_dup dX3_passHour_1 rfl ?_
  refine x_get fgX3_58_2 dX3_passHour_2 (Or.inl hB.h) rfl ?_
  refine x_iconst (v := 1) dX3_passHour_5 rfl ?_
  refine x_iadd dX3_passHour_6 ?_
  refine x_put fpX3_58_2 dX3_passHour_7 hB.h ⟨rfl, rfl⟩ (by exact Nat.le_of_ble_eq_true rfl) ?_
  refine xW.eqA (show _ = xup A (σ 0 0) (xHl S1 (σ 0 1) (σ 0 2) (σ 0 3) (σ 0 4) (σ 0 5)) by rw [← hS1]; rfl) ?_
  refine x_aload_n dX3_passHour_10 rfl ?_
  refine x_get fgX3_43_2 dX3_passHour_11 (Or.inl hB1.h) rfl ?_
  refine x_aload_n dX3_passHour_14 rfl ?_
  refine x_get fgX3_39_2 dX3_passHour_15 (Or.inl hB1.h) rfl ?_
  refine x_csV csX3_240 dX3_passHour_18 (c_J23_compare _ _ _ _) rfl ?_
  refine x_top (y := wmS S1) (cp_wm S1) ?_
  refine x_istore_n dX3_passHour_21 (by decide) rfl ?_
  refine x_aload_n dX3_passHour_22 rfl ?_
  refine x_dup dX3_passHour_23 rfl ?_
  refine x_get fgX3_39_2 dX3_passHour_24 (Or.inl hB1.h) rfl ?_
  refine x_iload_n dX3_passHour_27 rfl ?_
  refine x_iadd dX3_passHour_28 ?_
  refine x_put fpX3_39_2 dX3_passHour_29 hB1.h ⟨rfl, rfl⟩ (by exact Nat.le_of_ble_eq_true rfl) ?_
  refine xW.eqA (show _ = A2 by rw [← hA2, ← hS2]; rfl) ?_
  refine x_aload_n dX3_passHour_32 rfl ?_
  refine x_get fgX3_28_2 dX3_passHour_33 (Or.inl hB2.h) rfl ?_
  obtain ⟨es, ks, vs, hM, v1, v2, v3⟩ := hB2.pm
  obtain ⟨t0, mc, th, tl, hm⟩ := hM.m
  refine v_cvE (q := (RJ5, TJ5, 12)) cvX3_115_J5 dX3_passHour_36 (Or.inl hm) rfl (c_J5_entrySet g A2 (σ 0 4) t0 es ks vs _ tl _ mc th hm hM.2.1 (fun w hw => (v1 w hw).2.2) hok2) rfl (fun u A3 hP => ?_)
  obtain ⟨wv, rfl, q1, q2, q3, q4, q5, q6⟩ := hP
  have ht3 : ∀ r, r < A2.2.1 → tgU τ A2.2.1 0 r = τ r := fun r hr => tgU_o hr
  have hne : ∀ r, τ r ≠ 5 → r ≠ σ 0 4 := fun r hr e => hr (by rw [e]; exact hM.1)
  have hMp : hMp (tgU τ A2.2.1 0) 5 A3 (σ 0 4) (4 * manyS S2) (σ 4) (fun j => j) (σ 5) (σ 6) := ⟨some wv, ks, vs, hM.vw q6.1 q4 (fun t0' mc' th' hd' tl' e => by
    obtain ⟨z1, z4, z5, z9, z10⟩ := xLg_inj (Option.some.inj (hm.symm.trans e))
    rw [q3, z1, z4, z5, z9, z10]) (fun r hr e => (ht3 r hr).trans e), fun w hw => by
      cases hw
      rcases q5 with e | e
      · exact ⟨(ht3 _ (v1 _ e).2.1).trans (v1 _ e).1, q2, q1⟩
      · exact ⟨tgU_n e, q2, q1⟩, fun w hw => (v2 w hw).fr q6.1 ht3 (fun r hr h0 => q4 r hr (hne r (by rw [h0]; decide))), fun w hw => (v3 w hw).fr q6.1 ht3 (fun r hr h0 => q4 r hr (hne r (by rw [h0]; decide)))⟩
  have hB3 : HB g E (tgU τ A2.2.1 0) σ tf S2 Y A3 := hB2.u5 q6.1 ht3 (fun r hr h5 => q4 r hr (hne r h5)) hMp
  have s3 : hst τ A2 (tgU τ A2.2.1 0) A3 1 2 := ⟨q6, ht3, fun r hr h0 => q4 r hr (hne r (by rw [h0]; decide))⟩
  have hm3 := hB3.pmt
  refine x_cfV (q := (RJ39, TJ39, 2)) cfX3_119_J39 dX3_passHour_39 (Or.inl q1) rfl (c_J39_iterator g A3 wv (σ 0 4) t0 (some wv) ks vs _ tl _ mc th q1 q3 hm3.2 q2) rfl ?_
  refine x_astore_n dX3_passHour_44 (by decide) rfl ?_
  generalize hA4 : ov (xbp A3 5) [(A3.2.1, xLi 21 (hdF (σ 4) (4 * manyS S2)) none mc (σ 0 4))] = A4
  have f4 : ∀ r, r < A3.2.1 → A4.1 r = A3.1 r := fun r hr => by rw [← hA4]; exact xup_ne (Nat.ne_of_lt hr)
  have z4 : A4.2.1 = A3.2.1 + 1 := by rw [← hA4]; rfl
  have z5 : A4.2.2 = A3.2.2 + 5 := by rw [← hA4]; rfl
  have ht4 : ∀ r, r < A3.2.1 → tgU (tgU τ A2.2.1 0) A3.2.1 9 r = tgU τ A2.2.1 0 r := fun r hr => tgU_o hr
  have hB4 : HB g E (tgU (tgU τ A2.2.1 0) A3.2.1 9) σ tf S2 Y A4 := hB3.ext (by omega) ht4 f4
  have s4 : hst (tgU τ A2.2.1 0) A3 (tgU (tgU τ A2.2.1 0) A3.2.1 9) A4 1 5 := ⟨⟨by omega, by omega, by omega⟩, ht4, fun r hr _ => f4 r hr⟩
  refine xW.imp (ph_l g E _ σ tf S2 Y (wmS S1) A3.2.1 t0 (some wv) ks vs tl mc th (tgU_n (Nat.le_refl _)) (4 * manyS S2) 0 none _ _ A4 (by omega) hB4 (by omega) (by rw [← hA4]; refine xup_self.trans ?_; unfold hdF; cases h9 : 4 * manyS S2 with | zero => rfl | succ z => rfl) ((f4 _ hm3.2).trans q3)) (fun o A' hP => ?_)
  obtain ⟨u, e1, e2, k1, k2⟩ := hP
  refine ⟨u, e1, e2, _, ?_, ((s2.tr s3).tr s4).tr k2⟩
  rw [hw]
  exact k1

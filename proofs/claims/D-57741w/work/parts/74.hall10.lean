set_option maxRecDepth 100000
/-! A HALL CHANGES: a fiddler's four strings -/
def tfI (f : Nat) (r : Option Nat) (b : Int32) : Nat → (Nat → Int32) × Int32 → (Nat → Int32) × Int32
  | 0, q => q
  | k + 1, q => tfK f r b k (tfI f r b k q)
def tnI (S0 : Nat → Int32) (f c0 k : Nat) (S : Nat → Int32) (y : Int32) (w : Nat → Int32) : Prop :=
  (∀ i, ¬ ((16 ≤ i ∧ i < 20) ∨ (30 ≤ i ∧ i < 70) ∨ (70 + 21 * f + 9 ≤ i ∧ i < 70 + 21 * f + 21)) → S i = S0 i) ∧
  (∀ i, i < k → hs S0 f (13 + i) = 0 → w i = hs S f (9 + i)) ∧ (y = 0 → ∀ i, i < k → hs S0 f (13 + i) = 0) ∧
  (∀ i, k ≤ i → i < 4 → hs S f (13 + i) = hs S0 f (13 + i)) ∧ (∃ t : Nat, t ≤ k ∧ S 16 = S0 16 + nI t) ∧ S 19 = nI (fgN S) ∧ fgN S ≤ c0 + k ∧
  (∀ j, j < fgN S → ∀ q, k ≤ q → q < 4 → S (30 + j) ≠ nI (4 * f + q)) ∧
  ∀ j, j < fgN S → (j < fgN S0 ∧ S (30 + j) = S0 (30 + j)) ∨ ∃ q, q < 4 ∧ S (30 + j) = nI (4 * f + q)
theorem tnI_s {S0 S : Nat → Int32} {f c0 k : Nat} {y left : Int32} {r : Option Nat} {w w' : Nat → Int32} (h : tnI S0 f c0 k S y w) (hk : k < 4) (hf : f < 10) (hc : c0 ≤ 36) (hb : hs S f (13 + k) = 0 ∨ hs S f (13 + k) = 1) (hw : ∀ i, i ≠ k → w' i = w i) (hw2 : hs S f (13 + k) = 0 → w' k = hs (tunesS S f k r left).2 f (9 + k)) : tnI S0 f c0 (k + 1) (tunesS S f k r left).2 (if y = 0 then (tunesS S f k r left).1 else y) w' := by
  obtain ⟨h1, h2, h3, h4, ⟨t, h5, h6⟩, h7, h8, h9, h10⟩ := h
  have h40 : fgN S < 40 := by omega
  have o := fun i (hi : ¬ (i = 16 ∨ i = 17 ∨ i = 18 ∨ i = 19 ∨ (30 ≤ i ∧ i < 70) ∨ i = 70 + 21 * f + (9 + k) ∨ i = 70 + 21 * f + (13 + k) ∨ i = 70 + 21 * f + (17 + k))) => tun_o (r := r) (left := left) h7 h40 hi
  have e13 : hs S f (13 + k) = hs S0 f (13 + k) := h4 k (Nat.le_refl _) hk
  refine ⟨fun i hi => (o i (by omega)).trans (h1 i hi), fun i hi h0 => ?_, fun hy i hi => ?_, fun i a b => (o _ (by omega)).trans (h4 i (by omega) b), ?_, tun_19 h7 h40, ?_, fun j hj q a b => ?_, fun j hj => ?_⟩
  · by_cases e : i = k
    · subst e
      exact hw2 (e13.trans h0)
    · rw [hw i e, h2 i (by omega) h0]
      exact (o _ (by omega)).symm
  · by_cases y0 : y = 0
    · rw [if_pos y0] at hy
      by_cases e : i = k
      · subst e
        exact e13.symm.trans (tun_y hb hy)
      · exact h3 y0 i (by omega)
    · rw [if_neg y0] at hy
      exact absurd hy y0
  · obtain ⟨t2, a, b⟩ := tun_16 (r := r) (left := left) (f := f) (q := k) h7 h40
    exact ⟨t + t2, by omega, by rw [b, h6, ← nI_add, Int32.add_assoc]⟩
  · rcases tun_fg (r := r) (left := left) (f := f) (q := k) h7 h40 with a | a <;> omega
  · rcases tun_fg (r := r) (left := left) (f := f) (q := k) h7 h40 with ⟨a1, a2⟩ | ⟨a1, a2, a3⟩
    · rw [a1] at hj
      rw [a2 j hj]
      exact h9 j hj q (by omega) b
    · rw [a1] at hj
      by_cases e : j = fgN S
      · rw [e, a3]
        intro q9
        have := nI_inj (by omega) (by omega) q9
        omega
      · rw [a2 j (by omega)]
        exact h9 j (by omega) q (by omega) b
  · rcases tun_fg (r := r) (left := left) (f := f) (q := k) h7 h40 with ⟨a1, a2⟩ | ⟨a1, a2, a3⟩
    · rw [a1] at hj
      rw [a2 j hj]
      exact h10 j hj
    · rw [a1] at hj
      by_cases e : j = fgN S
      · rw [e, a3]
        exact Or.inr ⟨k, hk, rfl⟩
      · rw [a2 j (by omega)]
        exact h10 j (by omega)
theorem ad_sub (b x : Int32) : b + x - b = x := by
  apply Int32.toBitVec_inj.mp
  simp only [Int32.toBitVec_add, Int32.toBitVec_sub]
  generalize b.toBitVec = y
  generalize x.toBitVec = z
  bv_omega
theorem tn_l (g : xG) (E : Nat → Nat) (σ : Nat → Nat → Nat) (tf : Nat → Nat → Int32) (S0 Y : Nat → Int32) (τ0 : Nat → Nat) (A0 : xA) (hg : gW g E) (f c0 : Nat) (r : Option Nat) (hf : f < manyS S0) (hru : ∀ u, r = some u → u < manyS S0 ∧ u ≠ f ∧ ∀ k, k < 4 → tf u k = hs S0 u (9 + k)) (hch : hs S0 f 4 = 0) (hc0 : c0 ≤ 36)
    (kont : ∀ τ A N H K V w X5 X6, HB g E τ (sg7 σ N H K V) (tfU tf f w) (upd (tfI f r (S0 16) 4 (S0, 0)).1 (70 + 21 * f + 3) (rI r)) (upd Y f (tfI f r (S0 16) 4 (S0, 0)).2) A → tnI S0 f c0 4 (tfI f r (S0 16) 4 (S0, 0)).1 (tfI f r (S0 16) 4 (S0, 0)).2 w → hst τ0 A0 τ A 16 352 → xW g iX3_tune 12 101 [some (.ref (σ 0 0)), some (.ref (σ 1 f)), some (va_rf (r.map (σ 1))), some (.int (S0 16)), some (.int (nI 4)), X5, X6] [] A (xRs fun u A' => u = none ∧ ∃ τ' N H K V w, HB g E τ' (sg7 σ N H K V) (tfU tf f w) (tfS S0 f r).1 (upd Y f (tfS S0 f r).2) A' ∧ (hs (tfS S0 f r).1 f 2 = 1 → ∀ k, k < 4 → w k = hs (tfS S0 f r).1 f (9 + k)) ∧ tnI S0 f c0 4 (tfI f r (S0 16) 4 (S0, 0)).1 (tfI f r (S0 16) 4 (S0, 0)).2 w ∧ hst τ0 A0 τ' A' 16 352)) :
    ∀ m k τ A N H K V w X5 X6, m + k = 4 → HB g E τ (sg7 σ N H K V) (tfU tf f w) (upd (tfI f r (S0 16) k (S0, 0)).1 (70 + 21 * f + 3) (rI r)) (upd Y f (tfI f r (S0 16) k (S0, 0)).2) A → tnI S0 f c0 k (tfI f r (S0 16) k (S0, 0)).1 (tfI f r (S0 16) k (S0, 0)).2 w → hst τ0 A0 τ A (4 * k) (88 * k) → xW g iX3_tune 12 30 [some (.ref (σ 0 0)), some (.ref (σ 1 f)), some (va_rf (r.map (σ 1))), some (.int (S0 16)), some (.int (nI k)), X5, X6] [] A (xRs fun u A' => u = none ∧ ∃ τ' N H K V w, HB g E τ' (sg7 σ N H K V) (tfU tf f w) (tfS S0 f r).1 (upd Y f (tfS S0 f r).2) A' ∧ (hs (tfS S0 f r).1 f 2 = 1 → ∀ k, k < 4 → w k = hs (tfS S0 f r).1 f (9 + k)) ∧ tnI S0 f c0 4 (tfI f r (S0 16) 4 (S0, 0)).1 (tfI f r (S0 16) 4 (S0, 0)).2 w ∧ hst τ0 A0 τ' A' 16 352) := by
  intro m
  induction m with
  | zero =>
    intro k τ A N H K V w X5 X6 hk hB hI s
    have e : k = 4 := by omega
    subst e
    refine x_iload dX3_tune_30 rfl ?_
    refine x_iconst (v := 4) dX3_tune_32 rfl ?_
    refine x_icmp_geT (tgt := 101) dX3_tune_33 (by decide) (by decide) ?_
    exact kont τ A N H K V w X5 X6 hB hI s
  | succ m ih =>
    intro k τ A N H K V w X5 X6 hk hB hI s
    have hk4 : k < 4 := by omega
    generalize hq : tfI f r (S0 16) k (S0, 0) = qk at hB hI
    obtain ⟨S, y⟩ := qk
    replace hI : tnI S0 f c0 k S y w := hI
    replace hB : HB g E τ (sg7 σ N H K V) (tfU tf f w) (upd S (70 + 21 * f + 3) (rI r)) (upd Y f y) A := hB
    have hI9 := hI
    obtain ⟨i1, i2, i3, i4, ⟨t, i5, i6⟩, i7, i8, i9, i10⟩ := hI
    have h40 : fgN S < 40 := by omega
    have hmn : manyS (upd S (70 + 21 * f + 3) (rI r)) = manyS S0 := (manyS_eq (upd_ne _ _ (by omega))).trans (manyS_eq (i1 13 (by omega)))
    have hf9 : f < manyS (upd S (70 + 21 * f + 3) (rI r)) := by rw [hmn]; exact hf
    have hm10 := hB.le.1
    rw [hmn] at hm10
    have hw4 : ∀ q, ¬ (9 ≤ q) → q ≠ 3 → hs (upd S (70 + 21 * f + 3) (rI r)) f q = hs S0 f q := fun q a b => (upd_ne _ _ (by omega)).trans (i1 _ (by omega))
    have hb13 : hs S f (13 + k) = 0 ∨ hs S f (13 + k) = 1 := by
      have := (hB.pB hf9 hk4).1
      rw [show hs (upd S (70 + 21 * f + 3) (rI r)) f (13 + k) = hs S f (13 + k) from upd_ne _ _ (by omega)] at this
      exact this
    obtain ⟨pt, hp8, hpt⟩ := (hB.fd hf9).2.2.2.2.1
    rw [hw4 1 (by omega) (by omega)] at hpt
    have hrt : ∀ u, r = some u → rtS (upd S (70 + 21 * f + 3) (rI r)) k (some u) = hs S0 u (9 + k) := fun u hu => (upd_ne _ _ (by have := (hru u hu).2.1; omega)).trans (i1 _ (by have := (hru u hu).2.1; omega))
    refine x_iload dX3_tune_30 rfl ?_
    refine x_iconst (v := 4) dX3_tune_32 rfl ?_
    refine x_icmp_geF dX3_tune_33 101 (by decide) (nI_ge (a := k) (b := 4) hk4 (by omega)) ?_
    have body : ∀ X5 : Value, X5 = .int (rtS (upd S (70 + 21 * f + 3) (rI r)) k r) → xW g iX3_tune 12 53 [some (.ref (σ 0 0)), some (.ref (σ 1 f)), some (va_rf (r.map (σ 1))), some (.int (S0 16)), some (.int (nI k)), some X5, X6] [] A (xRs fun u A' => u = none ∧ ∃ τ' N H K V w, HB g E τ' (sg7 σ N H K V) (tfU tf f w) (tfS S0 f r).1 (upd Y f (tfS S0 f r).2) A' ∧ (hs (tfS S0 f r).1 f 2 = 1 → ∀ k, k < 4 → w k = hs (tfS S0 f r).1 f (9 + k)) ∧ tnI S0 f c0 4 (tfI f r (S0 16) 4 (S0, 0)).1 (tfI f r (S0 16) 4 (S0, 0)).2 w ∧ hst τ0 A0 τ' A' 16 352) := by
      intro X5 hX
      subst hX
      refine x_aload_n dX3_tune_53 rfl ?_
      refine x_aload_n dX3_tune_54 rfl ?_
      refine x_iload dX3_tune_55 rfl ?_
      refine x_iload dX3_tune_57 rfl ?_
      refine x_aload_n dX3_tune_59 rfl ?_
      refine x_get fgX3_64_2 dX3_tune_60 (Or.inl hB.h) rfl ?_
      refine x_iload_n dX3_tune_63 rfl ?_
      refine x_isub dX3_tune_64 ?_
      refine x_top (y := nI t) (by rw [show (upd S (70 + 21 * f + 3) (rI r)) 16 = S 16 from upd_ne _ _ (by omega), i6]; exact ad_sub _ _) ?_
      refine x_aload_n dX3_tune_65 rfl ?_
      refine x_get fgX3_210_3 dX3_tune_66 (Or.inl (hB.fd hf9).1.2.2) rfl ?_
      refine x_top (y := nI pt) (by rw [hw4 1 (by omega) (by omega), hpt]) ?_
      have key : ∀ pv : Int32, (pv = if hs S f 1 - S 16 + S0 16 ≤ 0 then 0 else 1) → xW g iX3_tune 12 77 [some (.ref (σ 0 0)), some (.ref (σ 1 f)), some (va_rf (r.map (σ 1))), some (.int (S0 16)), some (.int (nI k)), some (.int (rtS (upd S (70 + 21 * f + 3) (rI r)) k r)), X6] [.int pv, .int (rtS (upd S (70 + 21 * f + 3) (rI r)) k r), .int (nI k), .ref (σ 1 f), .ref (σ 0 0)] A (xRs fun u A' => u = none ∧ ∃ τ' N H K V w, HB g E τ' (sg7 σ N H K V) (tfU tf f w) (tfS S0 f r).1 (upd Y f (tfS S0 f r).2) A' ∧ (hs (tfS S0 f r).1 f 2 = 1 → ∀ k, k < 4 → w k = hs (tfS S0 f r).1 f (9 + k)) ∧ tnI S0 f c0 4 (tfI f r (S0 16) 4 (S0, 0)).1 (tfI f r (S0 16) 4 (S0, 0)).2 w ∧ hst τ0 A0 τ' A' 16 352) := by
        intro pv hpv
        refine v_cvE (q := (RX3, TX3, 18)) cvX3_213_X3 dX3_tune_77 (Or.inl hB.h) rfl (c_X3_tuneString g A E τ (sg7 σ N H K V) (tfU tf f w) _ (upd Y f y) hB hg f k r (hs S f 1 - S 16 + S0 16) pv hf9 hk4 (fun u hu => (hru u hu).2.1) (by rw [hw4 4 (by omega) (by omega), hch]; decide) hpv (fun j hj => by rw [fgN_c (by omega)] at hj; rw [show (upd S (70 + 21 * f + 3) (rI r)) (30 + j) = S (30 + j) from upd_ne _ _ (by omega)]; exact i9 j hj k (Nat.le_refl _) hk4) (by rw [fgN_c (by omega)]; exact h40)) rfl (fun w' A2 hP => ?_)
        obtain ⟨rfl, τ2, N2, H2, K2, V2, w2, hB2, q1, q2, s2⟩ := hP
        rw [tun_c (fun u hu => (hru u hu).2.1) hk4 i7 h40] at hB2 q2
        rw [tun_c (fun u hu => (hru u hu).2.1) hk4 i7 h40]
        rw [sg7_7, tfU_tfU] at hB2
        rw [tfU_s] at q1
        have hI2 : tnI S0 f c0 (k + 1) (tunesS S f k r (hs S f 1 - S 16 + S0 16)).2 (if y = 0 then (tunesS S f k r (hs S f 1 - S 16 + S0 16)).1 else y) w2 := tnI_s hI9 hk4 (by omega) hc0 hb13 q1 (fun h0 => (q2 ((upd_ne _ _ (by omega)).trans h0)).trans (upd_ne _ _ (by omega)))
        have eq1 : tfI f r (S0 16) (k + 1) (S0, 0) = ((tunesS S f k r (hs S f 1 - S 16 + S0 16)).2, if y = 0 then (tunesS S f k r (hs S f 1 - S 16 + S0 16)).1 else y) := by
          show tfK f r (S0 16) k (tfI f r (S0 16) k (S0, 0)) = _
          rw [hq]
          rfl
        generalize htn : tunesS S f k r (hs S f 1 - S 16 + S0 16) = tn at hB2 hI2 eq1 ⊢
        obtain ⟨cd, S2⟩ := tn
        have hmn2 : manyS (upd S2 (70 + 21 * f + 3) (rI r)) = manyS S0 := by
          have := hI2.1 13 (by omega)
          exact (manyS_eq (upd_ne _ _ (by omega))).trans (manyS_eq this)
        have hf2 : f < manyS (upd S2 (70 + 21 * f + 3) (rI r)) := by rw [hmn2]; exact hf
        have s3 := s.tr s2
        refine x_istore dX3_tune_80 (by decide) rfl ?_
        refine x_aload_n dX3_tune_82 rfl ?_
        refine x_get fgX3_204_3 dX3_tune_83 (Or.inl (hB2.fd hf2).1.2.2) rfl ?_
        refine x_top (y := y) (upd_self _ _ _) ?_
        refine x_if_ne 95 dX3_tune_86 (by decide) (fun c86 => ?_) (fun c86 => ?_)
        · rw [if_neg c86] at hI2 eq1
          refine x_iinc (v := nI (k + 1)) dX3_tune_95 rfl (nI_1 k) (by decide) rfl ?_
          refine x_goto (tgt := 30) dX3_tune_98 (by decide) ?_
          exact ih (k + 1) τ2 A2 N2 H2 K2 V2 w2 _ _ (by omega) (by rw [eq1]; exact hB2) (by rw [eq1]; exact hI2) (s3.le (by omega) (by omega))
        · rw [if_pos c86] at hI2 eq1
          refine x_aload_n dX3_tune_89 rfl ?_
          refine x_iload dX3_tune_90 rfl ?_
          refine x_put fpX3_204_3 dX3_tune_92 (hB2.fd hf2).1.2.2 ⟨rfl, rfl⟩ (by exact Nat.le_of_ble_eq_true rfl) ?_
          have hB3 := hB2.uf (S' := (upd S2 (70 + 21 * f + 3) (rI r))) (Y' := upd Y f cd) hf2 (fun _ _ => rfl) (fun i hi => (upd_ne _ _ hi).trans (upd_ne _ _ hi).symm) (hB2.fd hf2).2.2.1 (hB2.fd hf2).2.2.2.1
          rw [show (upd Y f cd) f = cd from upd_self _ _ _] at hB3
          have s4 := s3.tr (hst_up (τ := τ2) (A := A2) (a := σ 1 f) (e := xFd (nI f) (hs (upd S2 (70 + 21 * f + 3) (rI r)) f 1) (σ 3 f) (σ 2 f) (hs (upd S2 (70 + 21 * f + 3) (rI r)) f 3) (hs (upd S2 (70 + 21 * f + 3) (rI r)) f 4) cd) (by rw [show τ2 (σ 1 f) = 20 + f from (hB2.fd hf2).1.1]; omega))
          refine x_iinc (v := nI (k + 1)) dX3_tune_95 rfl (nI_1 k) (by decide) rfl ?_
          refine x_goto (tgt := 30) dX3_tune_98 (by decide) ?_
          exact ih (k + 1) τ2 _ N2 H2 K2 V2 w2 _ _ (by omega) (by rw [eq1]; exact hB3) (by rw [eq1]; exact hI2) (s4.le (by omega) (by omega))
      have hlf := lf_pt pt t hp8 (by omega) (S0 16) (S 16) i6
      have e1 : hs S f 1 = nI pt := (i1 _ (by omega)).trans hpt
      refine x_icmp_ge 76 dX3_tune_69 (by decide) (fun c69 => ?_) (fun c69 => ?_)
      · refine x_iconst (v := 0) dX3_tune_76 rfl ?_
        exact key 0 (by rw [e1, if_pos (hlf.mpr c69)])
      · refine x_iconst (v := 1) dX3_tune_72 rfl ?_
        refine x_goto (tgt := 77) dX3_tune_73 (by decide) ?_
        exact key 1 (by rw [e1, if_neg (fun h => c69 (hlf.mp h))])
    cases r with
    | none =>
      refine x_aload_nN dX3_tune_36 rfl ?_
      refine x_nn_F dX3_tune_37 ?_
      refine x_iconst (v := 0) dX3_tune_40 rfl ?_
      refine x_goto (tgt := 51) dX3_tune_41 (by decide) ?_
      refine x_istore dX3_tune_51 (by decide) rfl ?_
      exact body _ rfl
    | some u =>
      obtain ⟨u1, u2, u3⟩ := hru u rfl
      have hu9 : u < manyS (upd S (70 + 21 * f + 3) (rI (some u))) := by rw [hmn]; exact u1
      have hta := (hB.fd hu9).2.1.2.2
      rw [tfU_n u2] at hta
      refine x_aload_n dX3_tune_36 rfl ?_
      refine x_nn_T (tgt := 44) dX3_tune_37 (by decide) ?_
      refine x_aload_n dX3_tune_44 rfl ?_
      refine x_get fgX3_207_3 dX3_tune_45 (Or.inl (hB.fd hu9).1.2.2) rfl ?_
      refine x_iload dX3_tune_48 rfl ?_
      refine x_iald dX3_tune_50 (Or.inl hta) (vp_in_nI (n := k) hk4 (by omega)) ?_
      refine x_istore dX3_tune_51 (by decide) rfl ?_
      exact body _ (by rw [nI_clamp (by omega), u3 k hk4, hrt u rfl])

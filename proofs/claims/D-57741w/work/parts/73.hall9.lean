set_option maxRecDepth 100000
/-! A HALL CHANGES: a fiddler tunes -/
theorem tuS_c {S : Nat → Int32} {f q : Nat} {c v : Int32} : tuS (upd S (70 + 21 * f + 3) v) f q c = upd (tuS S f q c) (70 + 21 * f + 3) v := by
  have r : ∀ T w, w ≠ 3 → hs (upd T (70 + 21 * f + 3) v) f w = hs T f w := fun T w hw => upd_ne _ _ (by omega)
  have k : ∀ T w x, w ≠ 3 → su (upd T (70 + 21 * f + 3) v) f w x = upd (su T f w x) (70 + 21 * f + 3) v := fun T w x hw => upd_comm (by omega)
  unfold tuS
  by_cases hc : 150 < c
  · rw [if_pos hc, if_pos hc, k _ _ _ (by omega), r _ _ (by omega), k _ _ _ (by omega)]
  · rw [if_neg hc, if_neg hc]
    unfold shiftsS
    rw [r _ _ (by omega), r _ _ (by omega), k _ _ _ (by omega), r _ _ (by omega), k _ _ _ (by omega), k _ _ _ (by omega)]
theorem tn_c {S : Nat → Int32} {f q : Nat} {c v : Int32} : turnsS (upd S (70 + 21 * f + 3) v) f q c = upd (turnsS S f q c) (70 + 21 * f + 3) v := by
  rw [turns_tu, turns_tu, show upd S (70 + 21 * f + 3) v 16 = S 16 from upd_ne _ _ (by omega), upd_comm (by omega), tuS_c]
  by_cases hc : 150 < c
  · rw [if_pos hc, if_pos hc, show upd (tuS (upd S 16 (S 16 + 1)) f q c) (70 + 21 * f + 3) v 18 = tuS (upd S 16 (S 16 + 1)) f q c 18 from upd_ne _ _ (by omega), upd_comm (by omega)]
  · rw [if_neg hc, if_neg hc]
theorem fgN_c {S : Nat → Int32} {j : Nat} {v : Int32} (h : j ≠ 19) : fgN (upd S j v) = fgN S := fgN_eq (upd_ne _ _ (Ne.symm h))
theorem fg_c {S : Nat → Int32} {f q : Nat} {v : Int32} (h19 : S 19 = nI (fgN S)) (h4 : fgN S < 40) : forgivesS (upd S (70 + 21 * f + 3) v) f q = upd (forgivesS S f q) (70 + 21 * f + 3) v := by
  have e := fgN_c (S := S) (j := 70 + 21 * f + 3) (v := v) (by omega)
  have e1 : fg1S (upd S (70 + 21 * f + 3) v) f q = upd (fg1S S f q) (70 + 21 * f + 3) v := by
    unfold fg1S
    rw [e, upd_comm (i := 70 + 21 * f + 3) (j := 30 + fgN S) (by omega), upd_comm (i := 70 + 21 * f + 3) (j := 19) (by omega)]
  rw [forg_1 h19 h4, forg_1 (by rw [e]; exact (upd_ne _ _ (by omega)).trans h19) (by rw [e]; exact h4), e1, show upd (fg1S S f q) (70 + 21 * f + 3) v 17 = fg1S S f q 17 from upd_ne _ _ (by omega), upd_comm (by omega)]
theorem dif_c {S : Nat → Int32} {f q : Nat} {r : Option Nat} {v : Int32} (hr : ∀ u, r = some u → u ≠ f) (hq : q < 4) : difS (upd S (70 + 21 * f + 3) v) f q r = difS S f q r := by
  have e : hs (upd S (70 + 21 * f + 3) v) f (9 + q) = hs S f (9 + q) := upd_ne _ _ (by omega)
  rw [dif_rt, dif_rt, e]
  cases r with
  | none => rfl
  | some u =>
    have := hr u rfl
    exact congrArg _ (upd_ne _ _ (by omega))
theorem tun_c {S : Nat → Int32} {f q : Nat} {r : Option Nat} {left v : Int32} (hr : ∀ u, r = some u → u ≠ f) (hq : q < 4) (h19 : S 19 = nI (fgN S)) (h4 : fgN S < 40) : tunesS (upd S (70 + 21 * f + 3) v) f q r left = ((tunesS S f q r left).1, upd (tunesS S f q r left).2 (70 + 21 * f + 3) v) := by
  have e1 : hs (upd S (70 + 21 * f + 3) v) f (13 + q) = hs S f (13 + q) := upd_ne _ _ (by omega)
  unfold tunesS
  rw [e1, dif_c hr hq]
  by_cases h1 : hs S f (13 + q) = 1
  · rw [if_pos h1, if_pos h1]
  · rw [if_neg h1, if_neg h1]
    by_cases h2 : bI (difS S f q r) ≤ 2
    · rw [if_pos h2, if_pos h2]
      by_cases h3 : difS S f q r = 0
      · rw [if_pos h3, if_pos h3]
      · rw [if_neg h3, if_neg h3, fg_c h19 h4]
    · rw [if_neg h2, if_neg h2]
      by_cases h3 : left ≤ 0
      · rw [if_pos h3, if_pos h3]
      · rw [if_neg h3, if_neg h3, tn_c]
        unfold behS
        rw [show hs (upd (turnsS S f q (-difS S f q r)) (70 + 21 * f + 3) v) f (13 + q) = hs (turnsS S f q (-difS S f q r)) f (13 + q) from upd_ne _ _ (by omega), dif_c hr hq]
/-- what tuning a string leaves alone -/
theorem tun_o {S : Nat → Int32} {f q : Nat} {r : Option Nat} {left : Int32} {i : Nat} (h19 : S 19 = nI (fgN S)) (h4 : fgN S < 40) (h : ¬ (i = 16 ∨ i = 17 ∨ i = 18 ∨ i = 19 ∨ (30 ≤ i ∧ i < 70) ∨ i = 70 + 21 * f + (9 + q) ∨ i = 70 + 21 * f + (13 + q) ∨ i = 70 + 21 * f + (17 + q))) : (tunesS S f q r left).2 i = S i := by
  unfold tunesS
  split
  · rfl
  · split
    · split
      · rfl
      · rw [forg_1 h19 h4]
        exact (upd_ne _ _ (by omega)).trans (fg1_o (by omega) h4)
    · split
      · rfl
      · exact tn_o (by omega)
theorem tn_16 {S : Nat → Int32} {f q : Nat} {c : Int32} : turnsS S f q c 16 = S 16 + 1 := by
  rw [turns_tu]
  split
  · exact (upd_ne _ _ (by omega)).trans ((tuS_o (by omega)).trans (upd_self _ _ _))
  · exact (tuS_o (by omega)).trans (upd_self _ _ _)
theorem tun_16 {S : Nat → Int32} {f q : Nat} {r : Option Nat} {left : Int32} (h19 : S 19 = nI (fgN S)) (h4 : fgN S < 40) : ∃ t : Nat, t ≤ 1 ∧ (tunesS S f q r left).2 16 = S 16 + nI t := by
  have z : S 16 = S 16 + nI 0 := by rw [nI_0]; simp
  unfold tunesS
  split
  · exact ⟨0, by omega, z⟩
  · split
    · split
      · exact ⟨0, by omega, z⟩
      · rw [forg_1 h19 h4]
        exact ⟨0, by omega, (show upd (fg1S S f q) 17 (fg1S S f q 17 + 1) 16 = S 16 from (upd_ne _ _ (by decide)).trans (fg1_o (by omega) h4)).trans z⟩
    · split
      · exact ⟨0, by omega, z⟩
      · exact ⟨1, by omega, tn_16⟩
/-- the forgiven behind it -/
theorem tun_fg {S : Nat → Int32} {f q : Nat} {r : Option Nat} {left : Int32} (h19 : S 19 = nI (fgN S)) (h4 : fgN S < 40) : (fgN (tunesS S f q r left).2 = fgN S ∧ ∀ j, j < fgN S → (tunesS S f q r left).2 (30 + j) = S (30 + j)) ∨ (fgN (tunesS S f q r left).2 = fgN S + 1 ∧ (∀ j, j < fgN S → (tunesS S f q r left).2 (30 + j) = S (30 + j)) ∧ (tunesS S f q r left).2 (30 + fgN S) = nI (4 * f + q)) := by
  unfold tunesS
  split
  · exact Or.inl ⟨rfl, fun _ _ => rfl⟩
  · split
    · split
      · exact Or.inl ⟨rfl, fun _ _ => rfl⟩
      · right
        rw [forg_1 h19 h4]
        refine ⟨(fgN_c (by omega)).trans (fg1_N h4), fun j hj => ?_, ?_⟩
        · exact (upd_ne _ _ (by omega)).trans ((upd_ne _ _ (by omega)).trans (upd_ne _ _ (by omega)))
        · exact (upd_ne _ _ (by omega)).trans ((upd_ne _ _ (by omega)).trans (upd_self _ _ _))
    · split
      · exact Or.inl ⟨rfl, fun _ _ => rfl⟩
      · exact Or.inl ⟨fgN_eq (tn_o (by omega)), fun j hj => tn_o (by omega)⟩
theorem tun_19 {S : Nat → Int32} {f q : Nat} {r : Option Nat} {left : Int32} (h19 : S 19 = nI (fgN S)) (h4 : fgN S < 40) : (tunesS S f q r left).2 19 = nI (fgN (tunesS S f q r left).2) := by
  unfold tunesS
  split
  · exact h19
  · split
    · split
      · exact h19
      · rw [forg_1 h19 h4, show ∀ x, fgN (upd (fg1S S f q) 17 x) = fgN (fg1S S f q) from fun x => fgN_c (by omega), fg1_N h4]
        exact (show upd (fg1S S f q) 17 (fg1S S f q 17 + 1) 19 = fg1S S f q 19 from upd_ne _ _ (by decide)).trans (upd_self _ _ _)
    · split
      · exact h19
      · rw [fgN_eq (tn_o (by omega))]
        exact (tn_o (by omega)).trans h19
theorem tun_y {S : Nat → Int32} {f q : Nat} {r : Option Nat} {left : Int32} (hb : hs S f (13 + q) = 0 ∨ hs S f (13 + q) = 1) (h : (tunesS S f q r left).1 = 0) : hs S f (13 + q) = 0 := by
  rcases hb with k | k
  · exact k
  · unfold tunesS at h
    rw [if_pos k] at h
    exact absurd h (by show ¬ (2 : Int32) = 0; decide)
theorem lf_pt (p t : Nat) (hp : p ≤ 8) (ht : t ≤ 4) (b s : Int32) (hs9 : s = b + nI t) : (nI p - s + b ≤ 0) ↔ nI p ≤ nI t := by
  have e : nI p - s + b = nI p - nI t := by
    rw [hs9]
    apply Int32.toBitVec_inj.mp
    simp only [Int32.toBitVec_add, Int32.toBitVec_sub]
    generalize (nI p).toBitVec = x
    generalize (nI t).toBitVec = y
    generalize b.toBitVec = z
    bv_omega
  rw [e]
  have h : ∀ p, p ≤ 8 → ∀ t, t ≤ 4 → (nI p - nI t ≤ 0 ↔ nI p ≤ nI t) := by decide +kernel
  exact h p hp t ht

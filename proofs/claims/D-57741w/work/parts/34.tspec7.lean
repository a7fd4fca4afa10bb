/-! the reference's looks at its arguments -/
theorem inI_01 (x lo hi : Int32) : inI x lo hi = 0 ∨ inI x lo hi = 1 := by
  unfold inI
  split
  · exact Or.inr rfl
  · exact Or.inl rfl
theorem inI_y {x lo hi : Int32} (h : ¬ inI x lo hi = 0) : inI x lo hi = 1 := (inI_01 x lo hi).resolve_left h
theorem flI_y {b : Prop} [Decidable b] (h : b) : flI b = 1 := if_pos h
theorem flI_no {b : Prop} [Decidable b] (h : ¬ b) : flI b = 0 := if_neg h
theorem in_ix {f n : Nat} (h : f < n) (hn : n < 2 ^ 31) : ¬ inI (nI f) 0 (nI n - 1) = 0 := by
  rw [inI_1, show nI n - 1 = nI (n - 1) from pk_sub (b := 1) (by omega), show (0 : Int32) = nI 0 from rfl]
  exact fun k => k ⟨nI_le (by omega) (by omega), nI_le (by omega) (by omega)⟩
theorem in_cs (x : Int32) {n : Nat} (hn : n < 2 ^ 31) : inI x 0 (nI n - 1) = 0 ∨ ∃ f, f < n ∧ x = nI f := by
  rcases pk_ix x hn with h | h | ⟨f, h1, h2⟩
  · exact Or.inl (inI_1.mpr (fun k => Int32.lt_irrefl (Int32.lt_of_lt_of_le h k.1)))
  · refine Or.inl (inI_1.mpr (fun k => ?_))
    have a := Int32.le_trans h k.2
    rw [Int32.le_iff_toInt_le, nI_toInt hn] at a
    rcases Nat.eq_zero_or_pos n with z | z
    · subst z
      exact absurd (Int32.le_trans k.1 k.2) (by decide)
    · rw [show nI n - 1 = nI (n - 1) from pk_sub (b := 1) z, nI_toInt (by omega)] at a
      omega
  · exact Or.inr ⟨f, h1, h2⟩
theorem in_f {S : Nat → Int32} (hk : tOk S) {f : Nat} (h : f < manyS S) : ¬ inI (nI f) 0 (S 13 - 1) = 0 := by
  rw [hk.1.1]
  exact in_ix h (by have := hk.1.2; omega)
theorem in_k {k : Nat} (h : k < 4) : ¬ inI (nI k) 0 3 = 0 := in_ix (n := 4) h (by decide)

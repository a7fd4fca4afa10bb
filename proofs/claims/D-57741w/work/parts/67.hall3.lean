set_option maxRecDepth 100000
/-! A HALL CHANGES: pegs turned, chalked, strings replaced -/
theorem upd_comm {S : Nat → Int32} {i j : Nat} {x y : Int32} (h : i ≠ j) : upd (upd S i x) j y = upd (upd S j y) i x := by
  funext k
  unfold upd
  by_cases h1 : k = j
  · rw [if_pos h1, if_neg (by omega), if_pos h1]
  · rw [if_neg h1]
    by_cases h2 : k = i
    · rw [if_pos h2, if_pos h2]
    · rw [if_neg h2, if_neg h2, if_neg h1]
theorem mx_gI (a b : Int32) : mxI a b = gI a b := by
  unfold mxI gI
  by_cases h : b < a
  · rw [if_pos h, if_pos (by rw [Int32.lt_iff_toInt_lt] at h; rw [Int32.le_iff_toInt_le]; omega)]
  · rw [if_neg h]
    by_cases h2 : b ≤ a
    · rw [if_pos h2]
      rw [Int32.lt_iff_toInt_lt] at h
      rw [Int32.le_iff_toInt_le] at h2
      exact Int32.toInt_inj.mp (by omega)
    · rw [if_neg h2]
theorem mn_gI (k : Nat) (hk : k ≤ 9) (gr : Nat) (hg : gr ≤ 9) : mnI 0 (nI gr - nI k) = -gI 0 (nI k - nI gr) := by
  have h : ∀ k, k ≤ 9 → ∀ gr, gr ≤ 9 → mnI 0 (nI gr - nI k) = -gI 0 (nI k - nI gr) := by decide +kernel
  exact h k hk gr hg
theorem gr_dn (gr : Nat) (hg : gr ≤ 9) : ∃ g2 : Nat, g2 ≤ 9 ∧ gI 0 (nI gr - 1) = nI g2 := by
  have h : ∀ gr, gr ≤ 9 → gI 0 (nI gr - 1) = nI (gr - 1) := by decide +kernel
  exact ⟨gr - 1, by omega, h gr hg⟩
/-- the peg's words after it was turned -/
def tuS (S : Nat → Int32) (f q : Nat) (c : Int32) : Nat → Int32 :=
  su (if 150 < c then su S f (13 + q) 1 else shiftsS (shiftsS S f q c) f q (-gI 0 (3 - hs S f (17 + q)))) f (17 + q) (gI 0 (hs S f (17 + q) - 1))
theorem hs_su {S : Nat → Int32} {f w v : Nat} {x : Int32} (h : w ≠ v) : hs (su S f w x) f v = hs S f v := upd_ne _ _ (by omega)
theorem hs_sus {S : Nat → Int32} {f w : Nat} {x : Int32} : hs (su S f w x) f w = x := upd_self _ _ _
theorem tuS_o {S : Nat → Int32} {f q : Nat} {c : Int32} {i : Nat} (h : ¬ (i = 70 + 21 * f + (9 + q) ∨ i = 70 + 21 * f + (13 + q) ∨ i = 70 + 21 * f + (17 + q))) : tuS S f q c i = S i := by
  unfold tuS
  rw [show ∀ T x, su T f (17 + q) x i = T i from fun T x => upd_ne _ _ (by omega)]
  by_cases hc : 150 < c
  · rw [if_pos hc]
    exact upd_ne _ _ (by omega)
  · rw [if_neg hc]
    exact (upd_ne _ _ (by omega)).trans (upd_ne _ _ (by omega))
theorem tuS_17 {S : Nat → Int32} {f q : Nat} {c : Int32} : hs (tuS S f q c) f (17 + q) = gI 0 (hs S f (17 + q) - 1) := hs_sus
theorem tuS_13 {S : Nat → Int32} {f q : Nat} {c : Int32} : hs (tuS S f q c) f (13 + q) = if 150 < c then 1 else hs S f (13 + q) := by
  unfold tuS
  rw [hs_su (by omega)]
  by_cases hc : 150 < c
  · rw [if_pos hc, if_pos hc]
    exact hs_sus
  · rw [if_neg hc, if_neg hc]
    unfold shiftsS
    rw [hs_su (by omega), hs_su (by omega)]
theorem tuS_9 {S : Nat → Int32} {f q : Nat} {c : Int32} {gr : Nat} (hg : gr ≤ 9) (hq : q < 4) (hgr : hs S f (17 + q) = nI gr) : hs (tuS S f q c) f (9 + q) = if 150 < c then hs S f (9 + q) else clI (clI (hs S f (9 + q) + c) + mnI 0 (hs S f (17 + q) - 3)) := by
  unfold tuS
  rw [hs_su (by omega)]
  by_cases hc : 150 < c
  · rw [if_pos hc, if_pos hc]
    exact hs_su (by omega)
  · rw [if_neg hc, if_neg hc]
    unfold shiftsS
    rw [hs_sus, hs_sus, hgr]
    exact congrArg clI (congrArg _ (mn_gI 3 (by decide) gr hg).symm)
theorem turns_tu {S : Nat → Int32} {f q : Nat} {c : Int32} : turnsS S f q c = if 150 < c then upd (tuS (upd S 16 (S 16 + 1)) f q c) 18 (tuS (upd S 16 (S 16 + 1)) f q c 18 + 1) else tuS (upd S 16 (S 16 + 1)) f q c := by
  have e : hs (upd S 16 (S 16 + 1)) f (17 + q) = hs S f (17 + q) := upd_ne _ _ (by omega)
  unfold turnsS
  by_cases hc : 150 < c
  · rw [if_pos hc]
    show su (if 150 < c then _ else _) f (17 + q) _ = _
    rw [if_pos hc, tuS_o (by omega)]
    unfold tuS
    rw [if_pos hc, e]
    unfold su
    rw [upd_comm (by omega), show upd (upd S 16 (S 16 + 1)) (70 + 21 * f + (13 + q)) 1 18 = upd S 16 (S 16 + 1) 18 from upd_ne _ _ (by omega)]
  · rw [if_neg hc]
    show su (if 150 < c then _ else _) f (17 + q) _ = _
    rw [if_neg hc]
    unfold tuS
    rw [if_neg hc, e]
theorem c_X3_turn (g : xG) (A : xA) (E τ : Nat → Nat) (σ : Nat → Nat → Nat) (tf : Nat → Nat → Int32) (S Y : Nat → Int32) (hB : HB g E τ σ tf S Y A) (f q : Nat) (c : Int32) (hf : f < manyS S) (hq : q < 4) (hb : hs S f (13 + q) = 0) : xC g iX3_turn 5 [.ref (σ 0 0), .ref (σ 6 (4 * f + q)), .int c] A (xRs fun w A' => w = some (.int (flI (150 < c))) ∧ HB g E τ σ tf (turnsS S f q c) Y A' ∧ hst τ A τ A' 0 0) := by
  obtain ⟨gr, hg, hgr⟩ := (hB.pB hf hq).2
  have hB1 : HB g E τ σ tf (upd S 16 (S 16 + 1)) Y (xup A (σ 0 0) (xHl (upd S 16 (S 16 + 1)) (σ 0 1) (σ 0 2) (σ 0 3) (σ 0 4) (σ 0 5))) := hB.uh (fun i hi => upd_ne _ _ (by omega))
  have ew : ∀ w, hs (upd S 16 (S 16 + 1)) f w = hs S f w := fun w => upd_ne _ _ (by omega)
  have p1 := hB1.pA hf hq
  rw [ew, ew, ew, hb] at p1
  have hB2 := hB1.up (S' := tuS (upd S 16 (S 16 + 1)) f q c) hf hq (fun i hi => tuS_o hi) (by rw [tuS_13, ew, hb]; by_cases hc : 150 < c <;> simp [hc]) (by rw [tuS_17, ew, hgr]; exact gr_dn gr hg)
  rw [tuS_9 hg hq (by rw [ew]; exact hgr), tuS_17, tuS_13, ew, ew, ew, hb] at hB2
  have t1 := (hB.pg (k := 4 * f + q) (by omega)).1.1
  have s2 := (hst_up (A := A) (e := xHl (upd S 16 (S 16 + 1)) (σ 0 1) (σ 0 2) (σ 0 3) (σ 0 4) (σ 0 5)) (a := σ 0 0) (τ := τ) (by rw [hB.lt.2]; decide)).tr (hst_up (e := xPg (if 150 < c then hs S f (9 + q) else clI (clI (hs S f (9 + q) + c) + mnI 0 (hs S f (17 + q) - 3))) (gI 0 (hs S f (17 + q) - 1)) (if 150 < c then 1 else 0)) (a := σ 6 (4 * f + q)) (τ := τ) (by rw [t1]; omega))
  show xW g _ _ 0 [some (.ref (σ 0 0)), some (.ref (σ 6 (4 * f + q))), some (.int c), none] [] _ _
  refine x_aload_n dX3_turn_0 rfl ?_
  refine x_dup dX3_turn_1 rfl ?_
  refine x_get fgX3_64_2 dX3_turn_2 (Or.inl hB.h) rfl ?_
  refine x_iconst (v := 1) dX3_turn_5 rfl ?_
  refine x_iadd dX3_turn_6 ?_
  refine x_put fpX3_64_2 dX3_turn_7 hB.h ⟨rfl, rfl⟩ (by exact Nat.le_of_ble_eq_true rfl) ?_
  refine x_aload_n dX3_turn_10 rfl ?_
  refine x_iload_n dX3_turn_11 rfl ?_
  refine x_cvV (q := (RX6, TX6, 3)) cvX3_237_X6 dX3_turn_12 (Or.inl p1) rfl (c_X6_turn g _ (σ 6 (4 * f + q)) _ _ c p1) rfl ?_
  rw [mx_gI, show flI (150 < c) = if 150 < c then 1 else 0 from rfl]
  by_cases hc : 150 < c
  · rw [turns_tu]
    simp only [if_pos hc] at hB2 s2 ⊢
    have hB3 := hB2.uh (S' := upd (tuS (upd S 16 (S 16 + 1)) f q c) 18 (tuS (upd S 16 (S 16 + 1)) f q c 18 + 1)) (fun i hi => upd_ne _ _ (by omega))
    refine x_istore_n dX3_turn_15 (by decide) rfl ?_
    refine x_iload_n dX3_turn_16 rfl ?_
    refine x_if_eqF dX3_turn_17 30 (by decide) (by decide) ?_
    refine x_aload_n dX3_turn_20 rfl ?_
    refine x_dup dX3_turn_21 rfl ?_
    refine x_get fgX3_70_2 dX3_turn_22 (Or.inl hB2.h) rfl ?_
    refine x_iconst (v := 1) dX3_turn_25 rfl ?_
    refine x_iadd dX3_turn_26 ?_
    refine x_put fpX3_70_2 dX3_turn_27 hB2.h ⟨rfl, rfl⟩ (by exact Nat.le_of_ble_eq_true rfl) ?_
    refine x_iload_n dX3_turn_30 rfl ?_
    exact x_ireturn dX3_turn_31 rfl rfl ⟨_, rfl, rfl, hB3, s2.tr (hst_up (by rw [hB.lt.2]; decide))⟩
  · rw [turns_tu]
    simp only [if_neg hc] at hB2 s2 ⊢
    refine x_istore_n dX3_turn_15 (by decide) rfl ?_
    refine x_iload_n dX3_turn_16 rfl ?_
    refine x_if_eqT (tgt := 30) dX3_turn_17 (by decide) (by decide) ?_
    refine x_iload_n dX3_turn_30 rfl ?_
    exact x_ireturn dX3_turn_31 rfl rfl ⟨_, rfl, rfl, hB2, s2⟩

/-! small laws of the row -/
theorem upd_self (f : Nat → Int32) (k : Nat) (x : Int32) : upd f k x k = x := if_pos rfl
theorem upd_ne (f : Nat → Int32) {k j : Nat} (x : Int32) (h : j ≠ k) : upd f k x j = f j := if_neg h
theorem upd_upd (f : Nat → Int32) (k : Nat) (x y : Int32) : upd (upd f k x) k y = upd f k y := by
  funext j
  unfold upd
  split <;> rfl
theorem upd_id (f : Nat → Int32) (k : Nat) : upd f k (f k) = f := by
  funext j
  unfold upd
  split
  · rename_i h; rw [h]
  · rfl
theorem zup_zup (Z : Nat → Nat → Int32) (k : Nat) (f h : Nat → Int32) : zup (zup Z k f) k h = zup Z k h := by
  funext j
  unfold zup
  split <;> rfl
theorem zup_id (Z : Nat → Nat → Int32) (k : Nat) : zup Z k (Z k) = Z := by
  funext j
  unfold zup
  split
  · rename_i h; rw [h]
  · rfl
theorem zuu (Z : Nat → Nat → Int32) (k : Nat) (f : Nat → Int32) (i : Nat) (v : Int32) : zup (zup Z k f) k (upd (zup Z k f k) i v) = zup Z k (upd f i v) := by rw [zup_zup, zup_self]
theorem nI_m2 {q : Nat} (h : q < 2147483648) : ¬ nI q = -2 := fun e => by
  have h1 := congrArg Int32.toInt e
  rw [nI_toInt h] at h1
  have h2 : (-2 : Int32).toInt = -2 := by decide
  omega
theorem nI_m1 {q : Nat} (h : q < 2147483648) : ¬ nI q = -1 := fun e => by
  have h1 := congrArg Int32.toInt e
  rw [nI_toInt h] at h1
  have h2 : (-1 : Int32).toInt = -1 := by decide
  omega
theorem nI_inj {a b : Nat} (ha : a < 2 ^ 31) (hb : b < 2 ^ 31) (h : nI a = nI b) : a = b := (nI_eq ha hb).mp h
/-- an index below N -/
def ixl (x : Int32) (N : Nat) : Prop := x = nI x.toNatClampNeg ∧ x.toNatClampNeg < N
theorem ixl_nI {n N : Nat} (h : n < N) (hN : N ≤ 2 ^ 31) : ixl (nI n) N := by
  have := nI_clamp (n := n) (by omega)
  exact ⟨by rw [this], by rw [this]; exact h⟩
/-- what a round leaves of the row's head -/
def hdE (S T : Nat → Int32) : Prop := ∀ i, (i < 15 ∨ (20 ≤ i ∧ i < 30)) → T i = S i
theorem hdE.rf {S : Nat → Int32} : hdE S S := fun _ _ => rfl
theorem hdE.tr {S T U : Nat → Int32} (h : hdE S T) (k : hdE T U) : hdE S U := fun i hi => (k i hi).trans (h i hi)
theorem hdE.up {S T : Nat → Int32} (h : hdE S T) {j : Nat} (hj : ¬ (j < 15 ∨ (20 ≤ j ∧ j < 30))) (v : Int32) : hdE S (upd T j v) := fun i hi => by
  have hn : i ≠ j := fun e => hj (by rw [← e]; exact hi)
  rw [upd_ne _ _ hn]
  exact h i hi
theorem hdE.su {S T : Nat → Int32} (h : hdE S T) (f w : Nat) (v : Int32) : hdE S (su T f w v) := h.up (by omega) v
theorem hdE_shifts {S : Nat → Int32} (f k : Nat) (c : Int32) : hdE S (shiftsS S f k c) := hdE.rf.su _ _ _
theorem hdE_turns {S : Nat → Int32} (f k : Nat) (c : Int32) : hdE S (turnsS S f k c) := by
  unfold turnsS
  refine hdE.su ?_ _ _ _
  split
  · exact ((hdE.rf.up (by omega) _).su _ _ _).up (by omega) _
  · exact ((hdE.rf.up (by omega) _).tr (hdE_shifts _ _ _)).tr (hdE_shifts _ _ _)
theorem turns_lo {S : Nat → Int32} (f k : Nat) (c : Int32) (i : Nat) (hi : i < 70) (h1 : i ≠ 16) (h2 : i ≠ 18) : turnsS S f k c i = S i := by
  unfold turnsS
  simp only [su]
  rw [upd_ne _ _ (by omega)]
  split
  · rw [upd_ne _ _ h2, upd_ne _ _ (by omega), upd_ne _ _ h1]
  · unfold shiftsS
    simp only [su]
    rw [upd_ne _ _ (by omega), upd_ne _ _ (by omega), upd_ne _ _ h1]
theorem hdE_forgives {S : Nat → Int32} (f k : Nat) : hdE S (forgivesS S f k) := ((hdE.rf.up (by omega) _).up (by omega) _).up (by omega) _
theorem hdE_tunes {S : Nat → Int32} (f k : Nat) (r : Option Nat) (left : Int32) : hdE S (tunesS S f k r left).2 := by
  unfold tunesS
  split
  · exact hdE.rf
  · split
    · show hdE S (if difS S f k r = 0 then S else forgivesS S f k)
      split
      · exact hdE.rf
      · exact hdE_forgives f k
    · split
      · exact hdE.rf
      · exact hdE_turns f k _
/-- the count of forgiven strings grows by one at most -/
def le1 (S T : Nat → Int32) : Prop := T 19 = S 19 ∨ T 19 = S 19 + 1
theorem le1_tunes {S : Nat → Int32} (f k : Nat) (r : Option Nat) (left : Int32) (hj : ixl (S 19) 40) : le1 S (tunesS S f k r left).2 := by
  unfold tunesS
  split
  · exact Or.inl rfl
  · split
    · show le1 S (if difS S f k r = 0 then S else forgivesS S f k)
      split
      · exact Or.inl rfl
      · refine Or.inr ?_
        have := hj.2
        unfold forgivesS
        rw [upd_ne _ _ (by decide), upd_self, upd_ne _ _ (by omega)]
    · split
      · exact Or.inl rfl
      · exact Or.inl (turns_lo f k _ 19 (by decide) (by decide) (by decide))
theorem le1.ixl {S T : Nat → Int32} {N : Nat} (h : le1 S T) (hs : ixl (S 19) N) (hN : N < 2 ^ 31) : ixl (T 19) (N + 1) := by
  obtain ⟨h1, h2⟩ := hs
  rcases h with h | h
  · rw [h]; exact ⟨h1, by omega⟩
  · rw [h, h1, nI_1]; exact ixl_nI (by omega) (by omega)
theorem hdE_tfK {f : Nat} {r : Option Nat} {b : Int32} {k : Nat} {q : (Nat → Int32) × Int32} : hdE q.1 (tfK f r b k q).1 := hdE_tunes _ _ _ _
theorem hdE_cpK {f k : Nat} {S : Nat → Int32} : hdE S (cpK f k S) := hdE.rf.su _ _ _
theorem hdE_tf {S : Nat → Int32} (f : Nat) (r : Option Nat) : hdE S (tfS S f r).1 := by
  unfold tfS
  simp only
  refine hdE.tr ?_ (hdE.tr hdE_cpK (hdE.tr hdE_cpK (hdE.tr hdE_cpK hdE_cpK)))
  exact ((((hdE_tfK (q := (S, 0))).tr hdE_tfK).tr hdE_tfK).tr hdE_tfK).su _ _ _ |>.su _ _ _ |>.su _ _ _
theorem su_lo {S : Nat → Int32} {f w : Nat} {v : Int32} {i : Nat} (h : i < 70) : su S f w v i = S i := upd_ne _ _ (by omega)
theorem ixl_tf {S : Nat → Int32} (f : Nat) (r : Option Nat) {N : Nat} (h : ixl (S 19) N) (hN : N ≤ 37) : ixl ((tfS S f r).1 19) (N + 4) := by
  have h40 : ∀ {x : Int32} {M : Nat}, ixl x M → M ≤ 40 → ixl x 40 := fun a b => ⟨a.1, Nat.lt_of_lt_of_le a.2 b⟩
  unfold tfS
  simp only [cpK]
  rw [su_lo (by decide), su_lo (by decide), su_lo (by decide), su_lo (by decide), su_lo (by decide), su_lo (by decide), su_lo (by decide)]
  have k0 : ixl ((tfK f r (S 16) 0 (S, 0)).1 19) (N + 1) := (le1_tunes f 0 r _ (h40 h (by omega))).ixl h (by omega)
  generalize tfK f r (S 16) 0 (S, 0) = q0 at k0 ⊢
  have k1 : ixl ((tfK f r (S 16) 1 q0).1 19) (N + 2) := (le1_tunes f 1 r _ (h40 k0 (by omega))).ixl k0 (by omega)
  generalize tfK f r (S 16) 1 q0 = q1 at k1 ⊢
  have k2 : ixl ((tfK f r (S 16) 2 q1).1 19) (N + 3) := (le1_tunes f 2 r _ (h40 k1 (by omega))).ixl k1 (by omega)
  generalize tfK f r (S 16) 2 q1 = q2 at k2 ⊢
  exact (le1_tunes f 3 r _ (h40 k2 (by omega))).ixl k2 (by omega)
theorem fgS_lo : ∀ (n : Nat) (S : Nat → Int32) {i : Nat}, i < 70 → fgS n S i = S i
  | 0, _, _, _ => rfl
  | n + 1, S, i, h => by
    show su (su (su (fgS n S) n 2 0) n 3 (-1)) n 4 0 i = _
    rw [su_lo h, su_lo h, su_lo h]
    exact fgS_lo n S h
/-- the row's counts and places are in order -/
def tOk (S : Nat → Int32) : Prop := (S 13 = nI (manyS S) ∧ manyS S ≤ 10) ∧ (S 14 = nI (rowS S) ∧ rowS S ≤ 10) ∧ ∀ p, p < rowS S → S (20 + p) = nI (plS S p) ∧ plS S p < 10
theorem hdE.many {S T : Nat → Int32} (h : hdE S T) : manyS T = manyS S := by unfold manyS; rw [h 13 (by decide)]
theorem hdE.row {S T : Nat → Int32} (h : hdE S T) : rowS T = rowS S := by unfold rowS; rw [h 14 (by decide)]
theorem hdE.pl {S T : Nat → Int32} (h : hdE S T) {p : Nat} (hp : p < 10) : plS T p = plS S p := by unfold plS; rw [h (20 + p) (by omega)]
theorem hdE.ok {S T : Nat → Int32} (h : hdE S T) (k : tOk S) : tOk T := by
  obtain ⟨⟨k1, k2⟩, ⟨k3, k4⟩, k5⟩ := k
  refine ⟨⟨by rw [h 13 (by decide), h.many]; exact k1, by rw [h.many]; exact k2⟩, ⟨by rw [h 14 (by decide), h.row]; exact k3, by rw [h.row]; exact k4⟩, fun p hp => ?_⟩
  rw [h.row] at hp
  rw [h (20 + p) (by omega), h.pl (by omega)]
  exact k5 p hp
theorem hdE_fg : ∀ (n : Nat) (S : Nat → Int32), hdE S (fgS n S)
  | 0, _ => hdE.rf
  | n + 1, S => (((hdE_fg n S).su n 2 0).su n 3 (-1)).su n 4 0
theorem hdE_roK {p : Nat} {q : (Nat → Int32) × (Nat → Int32) × Option Nat} : hdE q.1 (roK p q).1 := hdE_tf _ _
theorem hdE_ro : ∀ (n : Nat) (q : (Nat → Int32) × (Nat → Int32) × Option Nat), hdE q.1 (roS n q).1
  | 0, _ => hdE.rf
  | n + 1, q => (hdE_ro n q).tr hdE_roK
theorem ro_r {n : Nat} {q : (Nat → Int32) × (Nat → Int32) × Option Nat} (hq : q.2.2 = none) (hk : tOk q.1) (hn : n ≤ rowS q.1) : ∀ r, (roS n q).2.2 = some r → r < 10 := by
  induction n with
  | zero => intro r hr; rw [show (roS 0 q).2.2 = q.2.2 from rfl, hq] at hr; cases hr
  | succ n ih =>
    intro r hr
    have hr : (if hs (tfS (roS n q).1 (plS (roS n q).1 n) (roS n q).2.2).1 (plS (roS n q).1 n) 2 = 1 then some (plS (roS n q).1 n) else (roS n q).2.2) = some r := hr
    split at hr
    · cases hr
      rw [(hdE_ro n q).pl (by have := hk.2.1.2; omega)]
      exact (hk.2.2 n (by omega)).2
    · exact ih (by omega) r hr
theorem ro_19 {n : Nat} {q : (Nat → Int32) × (Nat → Int32) × Option Nat} (h0 : ixl (q.1 19) 1) (hn : n ≤ 9) : ixl ((roS n q).1 19) (4 * n + 1) := by
  induction n with
  | zero => exact h0
  | succ n ih =>
    rw [show 4 * (n + 1) + 1 = 4 * n + 1 + 4 by omega]
    exact ixl_tf _ _ (ih (by omega)) (by omega)
theorem shifts_lo {S : Nat → Int32} {f k : Nat} {c : Int32} {i : Nat} (h : i < 70) : shiftsS S f k c i = S i := su_lo h
theorem hoK_lo {f k : Nat} {w : Int32} {S : Nat → Int32} {i : Nat} (h : i < 70) : hoK f w k S i = S i := by
  unfold hoK
  split
  · rfl
  · simp only
    rw [shifts_lo h, shifts_lo h]
theorem hoF_lo {f : Nat} {w : Int32} {S : Nat → Int32} {i : Nat} (h : i < 70) : hoF f w S i = S i := by
  unfold hoF
  rw [hoK_lo h, hoK_lo h, hoK_lo h, hoK_lo h]
theorem hoS_lo : ∀ (n : Nat) (w : Int32) (S : Nat → Int32) {i : Nat}, i < 70 → hoS n w S i = S i
  | 0, _, _, _, _ => rfl
  | n + 1, w, S, i, h => (hoF_lo h).trans (hoS_lo n w S h)
theorem hour1_lo {S : Nat → Int32} {i : Nat} (h : i < 70) (h0 : i ≠ 0) (h1 : i ≠ 1) : hour1S S i = S i := by
  unfold hour1S
  rw [hoS_lo _ _ _ h, upd_ne _ _ h1, upd_ne _ _ h0]
theorem hours_lo : ∀ (n : Nat) (S : Nat → Int32) {i : Nat}, i < 70 → i ≠ 0 → i ≠ 1 → hoursS n S i = S i
  | 0, _, _, _, _, _ => rfl
  | n + 1, S, i, h, h0, h1 => (hour1_lo h h0 h1).trans (hours_lo n S h h0 h1)
theorem flI_0 {b : Prop} [Decidable b] : flI b = 0 ↔ ¬ b := by
  unfold flI
  split <;> simp_all
theorem flI_n {b : Prop} [Decidable b] : ¬ flI b = 0 ↔ b := by
  rw [flI_0]
  exact Decidable.not_not
theorem tz1 : tZ 2 1 280 := by unfold tZ; decide
theorem tz2 : tZ 3 2 2240 := by unfold tZ; decide
theorem tz3 : tZ 4 3 560 := by unfold tZ; decide
theorem tz7 : tZ 6 7 16 := by unfold tZ; decide
theorem tz8 : tZ 7 8 10 := by unfold tZ; decide
theorem tz10 : tZ 9 10 800 := by unfold tZ; decide
theorem tz11 : tZ 10 11 800 := by unfold tZ; decide
theorem tz28 : tZ 11 28 4 := by unfold tZ; decide
theorem tz29 : tZ 12 29 4 := by unfold tZ; decide
theorem tz30 : tZ 13 30 120 := by unfold tZ; decide
theorem bI_00 : bI 0 ≤ 2 := by decide
theorem hour1_ok {S : Nat → Int32} (h : tOk S) : tOk (hour1S S) := by
  have e13 : hour1S S 13 = S 13 := hour1_lo (by decide) (by decide) (by decide)
  have e14 : hour1S S 14 = S 14 := hour1_lo (by decide) (by decide) (by decide)
  have ep : ∀ p, p < 10 → hour1S S (20 + p) = S (20 + p) := fun p hp => hour1_lo (by omega) (by omega) (by omega)
  obtain ⟨h1, ⟨h2, h3⟩, h4⟩ := h
  unfold tOk manyS rowS plS at *
  simp only [e13, e14]
  exact ⟨h1, ⟨h2, h3⟩, fun p hp => by rw [ep p (by omega)]; exact h4 p hp⟩
theorem hours_ok : ∀ (n : Nat) {S : Nat → Int32}, tOk S → tOk (hoursS n S)
  | 0, _, h => h
  | n + 1, _, h => hour1_ok (hours_ok n h)
theorem shS_lo : ∀ (n i : Nat) (S : Nat → Int32) {j : Nat}, j < 20 → shS n i S j = S j
  | 0, _, _, _, _ => rfl
  | n + 1, i, S, j, h => (shS_lo n (i + 1) (shK i S) h).trans (upd_ne _ _ (by omega))
theorem plc_lt {S : Nat → Int32} {x : Int32} : ∀ {n i j : Nat}, plcS S x n i = some j → i ≤ j ∧ j < i + n ∧ S (20 + j) = x
  | 0, i, j, h => by cases h
  | n + 1, i, j, h => by
    unfold plcS at h
    split at h
    · cases h
      exact ⟨Nat.le_refl _, by omega, by assumption⟩
    · obtain ⟨h1, h2, h3⟩ := plc_lt h
      exact ⟨by omega, by omega, h3⟩
theorem nam_lt {S : Nat → Int32} {x : Int32} : ∀ {n i j : Nat}, namS S x n i = some j → i ≤ j ∧ j < i + n ∧ hs S j 0 = x
  | 0, i, j, h => by cases h
  | n + 1, i, j, h => by
    unfold namS at h
    split at h
    · cases h
      exact ⟨Nat.le_refl _, by omega, by assumption⟩
    · obtain ⟨h1, h2, h3⟩ := nam_lt h
      exact ⟨by omega, by omega, h3⟩
theorem oI_1 {o : Option Nat} (h : ∀ i, o = some i → i < 2147483648) : oI o = -1 ↔ o = none := by
  cases o with
  | none => exact ⟨fun _ => rfl, fun _ => rfl⟩
  | some i => exact ⟨fun e => absurd e (nI_m1 (h i rfl)), fun e => by cases e⟩
theorem oI_plc {S : Nat → Int32} {x : Int32} (hk : tOk S) : oI (plcS S x (rowS S) 0) = -1 ↔ plcS S x (rowS S) 0 = none := oI_1 (fun i hi => by have := (plc_lt hi).2.1; have := hk.2.1.2; omega)
theorem oI_nam {S : Nat → Int32} {x : Int32} (hk : tOk S) : oI (namS S x (manyS S) 0) = -1 ↔ namS S x (manyS S) 0 = none := oI_1 (fun i hi => by have := (nam_lt hi).2.1; have := hk.1.2; omega)

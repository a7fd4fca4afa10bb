/-! THE ROW STAYS IN ORDER under the acts -/
def hdR (S T : Nat → Int32) : Prop := ∀ i, (i = 13 ∨ i = 14 ∨ (20 ≤ i ∧ i < 30)) → T i = S i
theorem hdR.rf {S : Nat → Int32} : hdR S S := fun _ _ => rfl
theorem hdR.tr {S T U : Nat → Int32} (h : hdR S T) (k : hdR T U) : hdR S U := fun i hi => (k i hi).trans (h i hi)
theorem hdR.up {S T : Nat → Int32} (h : hdR S T) {j : Nat} (hj : ¬ (j = 13 ∨ j = 14 ∨ (20 ≤ j ∧ j < 30))) (v : Int32) : hdR S (upd T j v) := fun i hi => by
  have hn : i ≠ j := fun e => hj (by rw [← e]; exact hi)
  rw [upd_ne _ _ hn]
  exact h i hi
theorem hdE.r {S T : Nat → Int32} (h : hdE S T) : hdR S T := fun i hi => h i (by omega)
theorem hdR.many {S T : Nat → Int32} (h : hdR S T) : manyS T = manyS S := by unfold manyS; rw [h 13 (by decide)]
theorem hdR.row {S T : Nat → Int32} (h : hdR S T) : rowS T = rowS S := by unfold rowS; rw [h 14 (by decide)]
theorem hdR.pl {S T : Nat → Int32} (h : hdR S T) {p : Nat} (hp : p < 10) : plS T p = plS S p := by unfold plS; rw [h (20 + p) (by omega)]
theorem hdR.ok {S T : Nat → Int32} (h : hdR S T) (k : rOk S) : rOk T := by
  obtain ⟨⟨⟨k1, k2⟩, ⟨k3, k4⟩, k5⟩, k6, k7⟩ := k
  refine ⟨⟨⟨by rw [h 13 (by decide), h.many]; exact k1, by rw [h.many]; exact k2⟩, ⟨by rw [h 14 (by decide), h.row]; exact k3, by rw [h.row]; exact k4⟩, fun p hp => ?_⟩, fun p hp => ?_, fun p r hpr hr => ?_⟩
  · rw [h.row] at hp
    rw [h (20 + p) (by omega), h.pl (by omega)]
    exact k5 p hp
  · rw [h.row] at hp
    rw [h.many, h.pl (by omega)]
    exact k6 p hp
  · rw [h.row] at hr
    rw [h.pl (by omega), h.pl (by omega)]
    exact k7 p r hpr hr
theorem hdR_chalk {S : Nat → Int32} {f k : Nat} : hdR S (chalkS S f k) := (((hdR.rf.up (by omega) _).up (by omega) _).up (by omega) _)
theorem hdR_repl {S : Nat → Int32} {f k : Nat} : hdR S (replS S f k) := ((((hdR.rf.up (by omega) _).up (by omega) _).up (by omega) _).up (by omega) _)
theorem hdR_hours : ∀ (n : Nat) {S : Nat → Int32}, hdR S (hoursS n S) := fun n S i hi => hours_lo n S (by omega) (by omega) (by omega)
theorem hdR_round {S Y : Nat → Int32} : hdR S (roundS S Y).1 := by
  have h1 : hdE S (upd (upd S 15 (S 15 + 1)) 19 0) := (hdE.rf.up (by omega) _).up (by omega) _
  exact ((h1.tr (hdE_fg _ _)).tr (hdE_ro (rowS (ro0 S Y).1) ((ro0 S Y).1, (ro0 S Y).2, none))).r
theorem plS_nI {S : Nat → Int32} {p f : Nat} (h : S (20 + p) = nI f) (hf : f < 10) : plS S p = f := by unfold plS; rw [h, nI_clamp (by omega)]
theorem swap_ok {S : Nat → Int32} {x y p r : Nat} (h : rOk S) (hp : plO S x = some p) (hr : plO S y = some r) (hx : x < manyS S) (hy : y < manyS S) : rOk (swapS S p r (nI x) (nI y)) := by
  obtain ⟨-, p1, p2⟩ := plc_lt hp
  obtain ⟨-, r1, r2⟩ := plc_lt hr
  rw [Nat.zero_add] at p1 r1
  have hm := h.1.1.2
  have ep : plS S p = x := plS_nI p2 (by omega)
  have er : plS S r = y := plS_nI r2 (by omega)
  have e : ∀ i, i < 20 → swapS S p r (nI x) (nI y) i = S i := fun i hi => by unfold swapS; rw [upd_ne _ _ (by omega), upd_ne _ _ (by omega)]
  have eq : ∀ i, swapS S p r (nI x) (nI y) (20 + i) = if i = r then nI x else if i = p then nI y else S (20 + i) := fun i => by
    unfold swapS upd
    by_cases h1 : i = r
    · rw [if_pos (by omega), if_pos h1]
    · rw [if_neg (by omega), if_neg h1]
      by_cases h2 : i = p
      · rw [if_pos (by omega), if_pos h2]
      · rw [if_neg (by omega), if_neg h2]
  have em : manyS (swapS S p r (nI x) (nI y)) = manyS S := by unfold manyS; rw [e 13 (by decide)]
  have ew : rowS (swapS S p r (nI x) (nI y)) = rowS S := by unfold rowS; rw [e 14 (by decide)]
  have epl : ∀ i, plS (swapS S p r (nI x) (nI y)) i = if i = r then x else if i = p then y else plS S i := fun i => by
    unfold plS
    rw [eq]
    split
    · rw [nI_clamp (by omega)]
    · split
      · rw [nI_clamp (by omega)]
      · rfl
  refine ⟨⟨⟨by rw [em, e 13 (by decide)]; exact h.1.1.1, by rw [em]; exact hm⟩, ⟨by rw [ew, e 14 (by decide)]; exact h.1.2.1.1, by rw [ew]; exact h.1.2.1.2⟩, fun i hi => ?_⟩, fun i hi => ?_, fun i j hij hj => ?_⟩
  · rw [ew] at hi
    rw [epl, eq]
    have := h.1.2.2 i hi
    split
    · exact ⟨rfl, by omega⟩
    · split
      · exact ⟨rfl, by omega⟩
      · exact this
  · rw [ew] at hi
    rw [epl, em]
    have := h.2.1 i hi
    split
    · exact hx
    · split
      · exact hy
      · exact this
  · rw [ew] at hj
    rw [epl, epl]
    have d := h.2.2 i j hij hj
    have d1 : ∀ t, t < rowS S → t ≠ p → plS S t ≠ x := fun t ht hn => by
      rcases Nat.lt_or_gt_of_ne hn with q | q
      · have := h.2.2 t p q p1; omega
      · have := h.2.2 p t q ht; omega
    have d2 : ∀ t, t < rowS S → t ≠ r → plS S t ≠ y := fun t ht hn => by
      rcases Nat.lt_or_gt_of_ne hn with q | q
      · have := h.2.2 t r q r1; omega
      · have := h.2.2 r t q ht; omega
    have a1 := d1 i (by omega)
    have a2 := d1 j hj
    have a3 := d2 i (by omega)
    have a4 := d2 j hj
    have dpr : p ≠ r → x ≠ y := fun hn => by have := d2 p p1 hn; omega
    split
    · split
      · omega
      · split
        · have := dpr (by omega); omega
        · rename_i c1 c2 c3; have := a2 c3; omega
    · split
      · split
        · have := dpr (by omega); omega
        · split
          · omega
          · rename_i c1 c2 c3 c4; have := a4 c3; omega
      · split
        · rename_i c1 c2 c3; have := a1 c2; omega
        · split
          · rename_i c1 c2 c3 c4; have := a3 c1; omega
          · exact d
theorem shS_pl : ∀ (n i : Nat) (S : Nat → Int32) (p : Nat), shS n i S (20 + p) = if i ≤ p ∧ p < i + n then S (20 + p + 1) else S (20 + p)
  | 0, i, S, p => by rw [if_neg (by omega)]; rfl
  | n + 1, i, S, p => by
    show shS n (i + 1) (shK i S) (20 + p) = _
    rw [shS_pl n (i + 1) (shK i S) p]
    unfold shK upd
    by_cases h1 : p = i
    · subst h1
      rw [if_neg (by omega), if_pos rfl, if_pos (by omega)]
    · by_cases h2 : i + 1 ≤ p ∧ p < i + 1 + n
      · rw [if_pos h2, if_neg (by omega), if_pos (by omega)]
      · rw [if_neg h2, if_neg (by omega), if_neg (by omega)]
theorem le_pl {S : Nat → Int32} {p : Nat} (hp : p < rowS S) (i : Nat) : leS S p (20 + i) = if p ≤ i ∧ i < rowS S - 1 then S (20 + i + 1) else S (20 + i) := by
  unfold leS
  rw [upd_ne _ _ (by omega), shS_pl]
  by_cases h : p ≤ i ∧ i < rowS S - 1
  · rw [if_pos h, if_pos (by omega)]
  · rw [if_neg h, if_neg (by omega)]
theorem le_13 {S : Nat → Int32} {p : Nat} : leS S p 13 = S 13 := (upd_ne _ _ (by decide)).trans (shS_lo _ _ _ (by decide))
theorem le_14 {S : Nat → Int32} {p : Nat} : leS S p 14 = S 14 - 1 := by
  unfold leS
  rw [upd_self, shS_lo _ _ _ (by decide)]
theorem le_row {S : Nat → Int32} {p : Nat} (h : tOk S) (hp : p < rowS S) : rowS (leS S p) = rowS S - 1 := by
  have := h.2.1.2
  show (leS S p 14).toNatClampNeg = _
  rw [le_14, h.2.1.1, show nI (rowS S) - 1 = nI (rowS S - 1) from pk_sub (b := 1) (by omega), nI_clamp (by omega)]
theorem le_ok {S : Nat → Int32} {p : Nat} (h : rOk S) (hp : p < rowS S) : rOk (leS S p) := by
  have hr := h.1.2.1.2
  have em : manyS (leS S p) = manyS S := by unfold manyS; rw [le_13]
  have ew := le_row h.1 hp
  have epl : ∀ i, i < rowS S - 1 → plS (leS S p) i = if p ≤ i then plS S (i + 1) else plS S i := fun i hi => by
    unfold plS
    rw [le_pl hp]
    by_cases c : p ≤ i
    · rw [if_pos ⟨c, hi⟩, if_pos c, Nat.add_assoc]
    · rw [if_neg (fun k => c k.1), if_neg c]
  refine ⟨⟨⟨by rw [em, le_13]; exact h.1.1.1, by rw [em]; exact h.1.1.2⟩, ⟨by rw [ew, le_14, h.1.2.1.1]; exact pk_sub (b := 1) (by omega), by omega⟩, fun i hi => ?_⟩, fun i hi => ?_, fun i j hij hj => ?_⟩
  · rw [ew] at hi
    rw [epl i hi, le_pl hp]
    by_cases c : p ≤ i
    · rw [if_pos ⟨c, hi⟩, if_pos c, Nat.add_assoc]; exact h.1.2.2 (i + 1) (by omega)
    · rw [if_neg (fun k => c k.1), if_neg c]; exact h.1.2.2 i (by omega)
  · rw [ew] at hi
    rw [epl i hi, em]
    split
    · exact h.2.1 (i + 1) (by omega)
    · exact h.2.1 i (by omega)
  · rw [ew] at hj
    rw [epl i (by omega), epl j hj]
    split
    · split
      · exact h.2.2 (i + 1) (j + 1) (by omega) (by omega)
      · omega
    · split
      · exact h.2.2 i (j + 1) (by omega) (by omega)
      · exact h.2.2 i j hij (by omega)
theorem jo_13 {S : Nat → Int32} {f : Nat} : joS S f 13 = S 13 := by
  unfold joS
  rw [upd_ne _ _ (by decide), upd_ne _ _ (by omega)]
theorem jo_14 {S : Nat → Int32} {f : Nat} : joS S f 14 = S 14 + 1 := by
  unfold joS
  rw [upd_self, upd_ne _ _ (by omega)]
theorem jo_pl {S : Nat → Int32} {f i : Nat} : joS S f (20 + i) = if i = rowS S then nI f else S (20 + i) := by
  unfold joS
  rw [upd_ne _ _ (by omega)]
  unfold upd
  by_cases h : i = rowS S
  · rw [if_pos (by omega), if_pos h]
  · rw [if_neg (by omega), if_neg h]
theorem jo_row {S : Nat → Int32} {f : Nat} (h : tOk S) (hr : rowS S < 10) : rowS (joS S f) = rowS S + 1 := by
  show (joS S f 14).toNatClampNeg = _
  rw [jo_14, h.2.1.1, nI_1, nI_clamp (by omega)]
theorem jo_ok {S : Nat → Int32} {f : Nat} (h : rOk S) (hf : f < manyS S) (hn : plO S f = none) : rOk (joS S f) := by
  have hr := plO_row h hf hn
  have hm := h.1.1.2
  have em : manyS (joS S f) = manyS S := by unfold manyS; rw [jo_13]
  have ew := jo_row (f := f) h.1 hr
  have epl : ∀ i, plS (joS S f) i = if i = rowS S then f else plS S i := fun i => by
    unfold plS
    rw [jo_pl]
    split
    · rw [nI_clamp (by omega)]
    · rfl
  refine ⟨⟨⟨by rw [em, jo_13]; exact h.1.1.1, by rw [em]; exact hm⟩, ⟨by rw [ew, jo_14, h.1.2.1.1, nI_1], by omega⟩, fun i hi => ?_⟩, fun i hi => ?_, fun i j hij hj => ?_⟩
  · rw [ew] at hi
    rw [epl, jo_pl]
    split
    · exact ⟨rfl, by omega⟩
    · exact h.1.2.2 i (by omega)
  · rw [ew] at hi
    rw [epl, em]
    split
    · exact hf
    · exact h.2.1 i (by omega)
  · rw [ew] at hj
    rw [epl, epl, if_neg (by omega)]
    split
    · intro e
      exact plc_none hn i (Nat.zero_le _) (by omega) (by rw [(h.1.2.2 i (by omega)).1, e])
    · exact h.2.2 i j hij (by omega)
/-! the acts keep it -/
def okO (o : Option tH) : Prop := ∀ k, o = some k → rOk k.1
theorem okO_sw {h : tH} {a b : Option Nat} (k : rOk h.1) (ha : ∀ i, a = some i → i < manyS h.1) (hb : ∀ i, b = some i → i < manyS h.1) : okO (swO h a b) := by
  intro x hx
  unfold swO at hx
  split at hx
  · split at hx
    · rename_i c1 c2
      cases hx
      exact swap_ok k c1 c2 (ha _ rfl) (hb _ rfl)
    · cases hx
  · cases hx
theorem okO_rw {h : tH} {a : Option Nat} {lv : Int32} (k : rOk h.1) (ha : ∀ i, a = some i → i < manyS h.1) : okO (rwO h a lv) := by
  intro x hx
  unfold rwO at hx
  split at hx
  · cases hx
  · split at hx
    · split at hx
      · cases hx
      · rename_i c1 c2
        cases hx
        exact le_ok k (by have := (plc_lt c1).2.1; omega)
    · split at hx
      · rename_i c1 c2
        cases hx
        exact jo_ok k (ha _ rfl) c1
      · cases hx
theorem okO_so {h : tH} {kind : Int64} {a : Option Nat} {j : Nat} {c : Int32} (k : rOk h.1) : okO (soO h kind a j c) := by
  intro x hx
  unfold soO at hx
  split at hx
  · cases hx
  · split at hx
    · split at hx
      · cases hx
      · cases hx; exact (hdE_turns _ _ _).r.ok k
    · split at hx
      · split at hx
        · cases hx; exact hdR_chalk.ok k
        · cases hx
      · split at hx
        · cases hx; exact hdR_repl.ok k
        · cases hx
theorem okO_wo {h : tH} {kind : Int64} {v : Int32} (k : rOk h.1) : okO (woO h kind v) := by
  intro x hx
  unfold woO at hx
  split at hx
  · cases hx; exact (hdR.rf.up (by omega) _).ok k
  · split at hx
    · split at hx
      · cases hx; exact (hdR_hours _).ok k
      · cases hx
    · cases hx; exact hdR_round.ok k
theorem doX_ok {q : tQ} {h : tH} {o : Option tH} (k : rOk h.1) (ho : okO o) : rOk (doX q h o).2.1 := by
  unfold doX
  split
  · exact k
  · cases o with
    | none => exact k
    | some x => exact ho x rfl

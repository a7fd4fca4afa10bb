/-! THE REFERENCE's STATE: the object at m, its arrays at m + 1 .. m + 13; F its int fields by number, W the word, S the row, Z the other arrays by their fields' numbers -/
section TW0
/-- equality contracts: the answer and the heap -/
def xRet (v : Option Value) (A' : xA) : Outcome → xA → Prop := fun o A1 => o = .returned v ∧ A1 = A'
/-- a contract: the method from its entry -/
abbrev xC (g : xG) (mj : xM) (d : Nat) (av : List Value) (A : xA) (Q : Outcome → xA → Prop) : Prop := xW g mj d 0 (xpad mj.2.2.1 (xent av)) [] A Q
def zup (Z : Nat → Nat → Int32) (k : Nat) (f : Nat → Int32) : Nat → Nat → Int32 := fun j => if j = k then f else Z j
theorem zup_self (Z : Nat → Nat → Int32) (k : Nat) (f : Nat → Int32) : zup Z k f k = f := if_pos rfl
theorem zup_ne (Z : Nat → Nat → Int32) {k j : Nat} (f : Nat → Int32) (h : j ≠ k) : zup Z k f j = Z j := if_neg h
def tFs (m : Nat) (F : Nat → Int32) (W : Int64) : List Value := [.ref (m + 1), .ref (m + 2), .ref (m + 3), .ref (m + 4), .ref (m + 5), .int (F 5), .int (F 6), .ref (m + 6), .ref (m + 7), .ref (m + 8), .ref (m + 9), .ref (m + 10), .int (F 12), .int (F 13), .int (F 14), .int (F 15), .int (F 16), .int (F 17), .int (F 18), .int (F 19), .int (F 20), .int (F 21), .long W, .int (F 23), .int (F 24), .int (F 25), .int (F 26), .int (F 27), .ref (m + 11), .ref (m + 12), .ref (m + 13), .int (F 31)]
def tWords : Nat → Int64 := fun k => match k with
  | 0 => 7
  | 1 => 4
  | 2 => 1
  | 3 => 5
  | _ => 0
def tCell (m : Nat) (F : Nat → Int32) (W : Int64) (S : Nat → Int32) (Z : Nat → Nat → Int32) (k : Nat) : xE := match k with
  | 0 => .inr (6, tFs m F W)
  | 1 => .inl (0, 280, .inl S)
  | 2 => .inl (0, 280, .inl (Z 1))
  | 3 => .inl (0, 2240, .inl (Z 2))
  | 4 => .inl (0, 560, .inl (Z 3))
  | 5 => .inl (2, 2, .inl (Z 4))
  | 6 => .inl (0, 16, .inl (Z 7))
  | 7 => .inl (0, 10, .inl (Z 8))
  | 8 => .inl (3, 4, .inr (.inl tWords))
  | 9 => .inl (0, 800, .inl (Z 10))
  | 10 => .inl (0, 800, .inl (Z 11))
  | 11 => .inl (0, 4, .inl (Z 28))
  | 12 => .inl (0, 4, .inl (Z 29))
  | _ => .inl (0, 120, .inl (Z 30))
def tA (B : xA) (m : Nat) (F : Nat → Int32) (W : Int64) (S : Nat → Int32) (Z : Nat → Nat → Int32) : xA := (fun a => if m ≤ a ∧ a ≤ m + 13 then some (tCell m F W S Z (a - m)) else B.1 a, B.2)
variable {B : xA} {m : Nat} {F : Nat → Int32} {W : Int64} {S : Nat → Int32} {Z : Nat → Nat → Int32}
theorem tA_at (k : Nat) (hk : k ≤ 13) : (tA B m F W S Z).1 (m + k) = some (tCell m F W S Z k) := by
  show (if m ≤ m + k ∧ m + k ≤ m + 13 then some (tCell m F W S Z (m + k - m)) else B.1 (m + k)) = _
  rw [if_pos ⟨Nat.le_add_right _ _, Nat.add_le_add_left hk _⟩, Nat.add_sub_cancel_left]
theorem tA_o : (tA B m F W S Z).1 m = some (.inr (6, tFs m F W)) := tA_at (m := m) 0 (by decide)
theorem tA_out {a : Nat} (h : ¬ (m ≤ a ∧ a ≤ m + 13)) : (tA B m F W S Z).1 a = B.1 a := if_neg h
theorem tA_2 : (tA B m F W S Z).2 = B.2 := rfl
theorem tA_up (k : Nat) (hk : k ≤ 13) {e : xE} {F' : Nat → Int32} {W' : Int64} {S' : Nat → Int32} {Z' : Nat → Nat → Int32} (he : tCell m F' W' S' Z' k = e) (ho : ∀ j, j ≤ 13 → j ≠ k → tCell m F' W' S' Z' j = tCell m F W S Z j) : xup (tA B m F W S Z) (m + k) e = tA B m F' W' S' Z' := by
  refine Prod.ext (funext fun a => ?_) rfl
  show va_up _ _ _ a = (if m ≤ a ∧ a ≤ m + 13 then some (tCell m F' W' S' Z' (a - m)) else B.1 a)
  by_cases ha : a = m + k
  · subst ha
    rw [va_up_self, if_pos ⟨Nat.le_add_right _ _, Nat.add_le_add_left hk _⟩, Nat.add_sub_cancel_left, he]
  · rw [va_up_ne _ _ ha]
    show (if m ≤ a ∧ a ≤ m + 13 then some (tCell m F W S Z (a - m)) else B.1 a) = _
    by_cases hin : m ≤ a ∧ a ≤ m + 13
    · rw [if_pos hin, if_pos hin, ho (a - m) (by omega) (by omega)]
    · rw [if_neg hin, if_neg hin]
theorem tFs_set (j : Nat) (hj : j ∈ [5, 6, 12, 13, 14, 15, 16, 17, 18, 19, 20, 21, 23, 24, 25, 26, 27, 31]) (v : Int32) : (tFs m F W).set j (.int v) = tFs m (upd F j v) W := by
  simp only [List.mem_cons, List.not_mem_nil, or_false] at hj
  rcases hj with rfl | rfl | rfl | rfl | rfl | rfl | rfl | rfl | rfl | rfl | rfl | rfl | rfl | rfl | rfl | rfl | rfl | rfl <;> simp [tFs, upd]
theorem tFs_setW (v : Int64) : (tFs m F W).set 22 (.long v) = tFs m F v := rfl
section
variable {g : xG} {mi : xM} {d pc idx : Nat} {L : List (Option Value)} {st : List Value} {Q : Outcome → xA → Prop}
theorem t_get {j : Nat} {v : Value} (hF : xFL mi.1.cls idx 6 j) (hd : decode mi.2.1 pc = .ok (.getfield idx, 3)) (hv : (tFs m F W)[j]? = some v) (k : xW g mi d (pc + 3) L (v :: st) (tA B m F W S Z) Q) : xW g mi d pc L (.ref m :: st) (tA B m F W S Z) Q := x_get hF hd (Or.inl tA_o) hv k
theorem t_put {j : Nat} {v : Int32} {ty : FieldType} (hF : xFP mi.1.cls idx 6 j ty) (hd : decode mi.2.1 pc = .ok (.putfield idx, 3)) (hj : j ∈ [5, 6, 12, 13, 14, 15, 16, 17, 18, 19, 20, 21, 23, 24, 25, 26, 27, 31]) (hv : xfit ty (.int v)) (k : xW g mi d (pc + 3) L st (tA B m (upd F j v) W S Z) Q) : xW g mi d pc L (.int v :: .ref m :: st) (tA B m F W S Z) Q := by
  refine x_put hF hd tA_o hv (by simp only [List.mem_cons, List.not_mem_nil, or_false] at hj; show j < 32; omega) ?_
  rw [show xup (tA B m F W S Z) m (.inr (6, (tFs m F W).set j (.int v))) = tA B m (upd F j v) W S Z from tA_up (m := m) 0 (by decide) (by rw [tFs_set j hj]; rfl) (fun i hi h0 => by
    match i, h0 with
    | 0, h0 => exact absurd rfl h0
    | 1, _ | 2, _ | 3, _ | 4, _ | 5, _ | 6, _ | 7, _ | 8, _ | 9, _ | 10, _ | 11, _ | 12, _ | 13, _ => rfl
    | i + 14, _ => omega)]
  exact k
theorem t_putW {v : Int64} (hF : xFP mi.1.cls idx 6 22 .long) (hd : decode mi.2.1 pc = .ok (.putfield idx, 3)) (k : xW g mi d (pc + 3) L st (tA B m F v S Z) Q) : xW g mi d pc L (.long v :: .ref m :: st) (tA B m F W S Z) Q := by
  refine x_put hF hd tA_o ⟨rfl, rfl⟩ (by show 22 < 32; decide) ?_
  rw [show xup (tA B m F W S Z) m (.inr (6, (tFs m F W).set 22 (.long v))) = tA B m F v S Z from tA_up (m := m) 0 (by decide) (by rw [tFs_setW]; rfl) (fun i hi h0 => by
    match i, h0 with
    | 0, h0 => exact absurd rfl h0
    | 1, _ | 2, _ | 3, _ | 4, _ | 5, _ | 6, _ | 7, _ | 8, _ | 9, _ | 10, _ | 11, _ | 12, _ | 13, _ => rfl
    | i + 14, _ => omega)]
  exact k
/-- the row -/
theorem t_aldS {i : Int32} (n : Nat) (hd : decode mi.2.1 pc = .ok (.iaload, 1)) (hi : i = nI n) (hn : n < 280) (k : xW g mi d (pc + 1) L (.int (S n) :: st) (tA B m F W S Z) Q) : xW g mi d pc L (.int i :: .ref (m + 1) :: st) (tA B m F W S Z) Q := by
  subst hi
  refine x_iald hd (Or.inl (tA_at 1 (by decide))) (vp_in_nI hn (by omega)) ?_
  rw [nI_clamp (by omega)]
  exact k
theorem t_astS {i x : Int32} (n : Nat) (hd : decode mi.2.1 pc = .ok (.iastore, 1)) (hi : i = nI n) (hn : n < 280) (k : xW g mi d (pc + 1) L st (tA B m F W (upd S n x) Z) Q) : xW g mi d pc L (.int x :: .int i :: .ref (m + 1) :: st) (tA B m F W S Z) Q := by
  subst hi
  refine x_iast hd (tA_at 1 (by decide)) (vp_in_nI hn (by omega)) ?_
  rw [nI_clamp (by omega), show xup (tA B m F W S Z) (m + 1) (.inl (0, 280, .inl (upd S n x))) = tA B m F W (upd S n x) Z from tA_up 1 (by decide) rfl (fun i hi h0 => by
    match i, h0 with
    | 1, h0 => exact absurd rfl h0
    | 0, _ | 2, _ | 3, _ | 4, _ | 5, _ | 6, _ | 7, _ | 8, _ | 9, _ | 10, _ | 11, _ | 12, _ | 13, _ => rfl
    | i + 14, _ => omega)]
  exact k
/-- the other int arrays: field j, place c of the cells, length N -/
def tZ (c j N : Nat) : Prop := (c = 2 ∧ j = 1 ∧ N = 280) ∨ (c = 3 ∧ j = 2 ∧ N = 2240) ∨ (c = 4 ∧ j = 3 ∧ N = 560) ∨ (c = 6 ∧ j = 7 ∧ N = 16) ∨ (c = 7 ∧ j = 8 ∧ N = 10) ∨ (c = 9 ∧ j = 10 ∧ N = 800) ∨ (c = 10 ∧ j = 11 ∧ N = 800) ∨ (c = 11 ∧ j = 28 ∧ N = 4) ∨ (c = 12 ∧ j = 29 ∧ N = 4) ∨ (c = 13 ∧ j = 30 ∧ N = 120)
theorem tZ_cell {c j N : Nat} (h : tZ c j N) : c ≤ 13 ∧ N < 2 ^ 31 ∧ tCell m F W S Z c = .inl (0, N, .inl (Z j)) := by
  rcases h with ⟨rfl, rfl, rfl⟩ | ⟨rfl, rfl, rfl⟩ | ⟨rfl, rfl, rfl⟩ | ⟨rfl, rfl, rfl⟩ | ⟨rfl, rfl, rfl⟩ | ⟨rfl, rfl, rfl⟩ | ⟨rfl, rfl, rfl⟩ | ⟨rfl, rfl, rfl⟩ | ⟨rfl, rfl, rfl⟩ | ⟨rfl, rfl, rfl⟩ <;> exact ⟨by decide, by decide, rfl⟩
theorem tZ_up {c j N : Nat} (h : tZ c j N) (f : Nat → Int32) : xup (tA B m F W S Z) (m + c) (.inl (0, N, .inl f)) = tA B m F W S (zup Z j f) := by
  rcases h with ⟨rfl, rfl, rfl⟩ | ⟨rfl, rfl, rfl⟩ | ⟨rfl, rfl, rfl⟩ | ⟨rfl, rfl, rfl⟩ | ⟨rfl, rfl, rfl⟩ | ⟨rfl, rfl, rfl⟩ | ⟨rfl, rfl, rfl⟩ | ⟨rfl, rfl, rfl⟩ | ⟨rfl, rfl, rfl⟩ | ⟨rfl, rfl, rfl⟩ <;>
  exact tA_up _ (by decide) (by rfl) (fun i hi h0 => by
    match i, h0 with
    | 0, h0 | 1, h0 | 2, h0 | 3, h0 | 4, h0 | 5, h0 | 6, h0 | 7, h0 | 8, h0 | 9, h0 | 10, h0 | 11, h0 | 12, h0 | 13, h0 => first | rfl | exact absurd rfl h0
    | i + 14, _ => omega)
theorem t_aldZ {c j N : Nat} (hz : tZ c j N) {i : Int32} (n : Nat) (hd : decode mi.2.1 pc = .ok (.iaload, 1)) (hi : i = nI n) (hn : n < N) (k : xW g mi d (pc + 1) L (.int (Z j n) :: st) (tA B m F W S Z) Q) : xW g mi d pc L (.int i :: .ref (m + c) :: st) (tA B m F W S Z) Q := by
  obtain ⟨h1, h2, h3⟩ := tZ_cell (m := m) (F := F) (W := W) (S := S) (Z := Z) hz
  subst hi
  refine x_iald hd (Or.inl ((tA_at c h1).trans (congrArg some h3))) (vp_in_nI hn (by omega)) ?_
  rw [nI_clamp (by omega)]
  exact k
theorem t_astZ {c j N : Nat} (hz : tZ c j N) {i x : Int32} (n : Nat) (hd : decode mi.2.1 pc = .ok (.iastore, 1)) (hi : i = nI n) (hn : n < N) (k : xW g mi d (pc + 1) L st (tA B m F W S (zup Z j (upd (Z j) n x))) Q) : xW g mi d pc L (.int x :: .int i :: .ref (m + c) :: st) (tA B m F W S Z) Q := by
  obtain ⟨h1, h2, h3⟩ := tZ_cell (m := m) (F := F) (W := W) (S := S) (Z := Z) hz
  subst hi
  refine x_iast hd ((tA_at c h1).trans (congrArg some h3)) (vp_in_nI hn (by omega)) ?_
  rw [nI_clamp (by omega), tZ_up hz]
  exact k
/-- isKept -/
theorem t_aldK {i : Int32} (n : Nat) (hd : decode mi.2.1 pc = .ok (.baload, 1)) (hi : i = nI n) (hn : n < 2) (k : xW g mi d (pc + 1) L (.int (Z 4 n) :: st) (tA B m F W S Z) Q) : xW g mi d pc L (.int i :: .ref (m + 5) :: st) (tA B m F W S Z) Q := by
  subst hi
  refine x_zald hd (Or.inl (tA_at 5 (by decide))) (vp_in_nI hn (by omega)) ?_
  rw [nI_clamp (by omega)]
  exact k
theorem t_astK {i x : Int32} (n : Nat) (hd : decode mi.2.1 pc = .ok (.bastore, 1)) (hi : i = nI n) (hn : n < 2) (hx : vp_nar .boolean x = x) (k : xW g mi d (pc + 1) L st (tA B m F W S (zup Z 4 (upd (Z 4) n x))) Q) : xW g mi d pc L (.int x :: .int i :: .ref (m + 5) :: st) (tA B m F W S Z) Q := by
  subst hi
  refine x_zast hd (tA_at 5 (by decide)) (vp_in_nI hn (by omega)) ?_
  rw [nI_clamp (by omega), hx, show xup (tA B m F W S Z) (m + 5) (.inl (2, 2, .inl (upd (Z 4) n x))) = tA B m F W S (zup Z 4 (upd (Z 4) n x)) from tA_up 5 (by decide) rfl (fun i hi h0 => by
    match i, h0 with
    | 5, h0 => exact absurd rfl h0
    | 0, _ | 1, _ | 2, _ | 3, _ | 4, _ | 6, _ | 7, _ | 8, _ | 9, _ | 10, _ | 11, _ | 12, _ | 13, _ => rfl
    | i + 14, _ => omega)]
  exact k
theorem t_aldW {i : Int32} (n : Nat) (hd : decode mi.2.1 pc = .ok (.laload, 1)) (hi : i = nI n) (hn : n < 4) (k : xW g mi d (pc + 1) L (.long (tWords n) :: st) (tA B m F W S Z) Q) : xW g mi d pc L (.int i :: .ref (m + 8) :: st) (tA B m F W S Z) Q := by
  subst hi
  refine x_lald hd (Or.inl (tA_at 8 (by decide))) (vp_in_nI hn (by omega)) ?_
  rw [nI_clamp (by omega)]
  exact k
/-- another spelling of the top int -/
theorem x_top {A : xA} {x y : Int32} (h : x = y) (k : xW g mi d pc L (.int y :: st) A Q) : xW g mi d pc L (.int x :: st) A Q := by
  subst h
  exact k
/-! calls whose contract is an equality -/
variable {mj : xM} {d1 n : Nat} {av : List Value} {A A1 : xA} {st0 : List Value} {v : Value}
theorem x_csV (hw : xCS mi.1.cls idx mj n) (hd : decode mi.2.1 pc = .ok (.invokestatic idx, 3)) (hc : xC g mj d1 av A (xRet (some v) A1)) (h0 : st0 = av.reverse ++ st) (k : xW g mi d (pc + 3) L (v :: st) A1 Q) (hsl : (lg_sl av).length ≤ mj.2.2.1 := by exact Nat.le_of_ble_eq_true rfl) (hn : av.length = n := by rfl) (hdd : d1 + 1 ≤ d := by exact Nat.le_of_ble_eq_true rfl) (hst : xrs st := by exact Nat.le_of_ble_eq_true rfl) : xW g mi d pc L st0 A Q :=
  x_cs hw hd hc hsl hn hdd hst h0 (fun o A2 h => by obtain ⟨rfl, rfl⟩ := h; exact k)
theorem x_csN (hw : xCS mi.1.cls idx mj n) (hd : decode mi.2.1 pc = .ok (.invokestatic idx, 3)) (hc : xC g mj d1 av A (xRet none A1)) (h0 : st0 = av.reverse ++ st) (k : xW g mi d (pc + 3) L st A1 Q) (hsl : (lg_sl av).length ≤ mj.2.2.1 := by exact Nat.le_of_ble_eq_true rfl) (hn : av.length = n := by rfl) (hdd : d1 + 1 ≤ d := by exact Nat.le_of_ble_eq_true rfl) (hst : xrs st := by exact Nat.le_of_ble_eq_true rfl) : xW g mi d pc L st0 A Q :=
  x_cs hw hd hc hsl hn hdd hst h0 (fun o A2 h => by obtain ⟨rfl, rfl⟩ := h; exact k)
theorem x_cvV {a ci : Nat} {fs : List Value} {q : vw_C} (hw : xCV mi.1.cls idx q.1 mj n) (hd : decode mi.2.1 pc = .ok (.invokevirtual idx, 3)) (ha : xAt g A a (.inr (ci, fs))) (hci : xcl[ci]? = some q) (hc : xC g mj d1 (.ref a :: av) A (xRet (some v) A1)) (h0 : st0 = av.reverse ++ .ref a :: st) (k : xW g mi d (pc + 3) L (v :: st) A1 Q) (hsl : (lg_sl (.ref a :: av)).length ≤ mj.2.2.1 := by exact Nat.le_of_ble_eq_true rfl) (hn : av.length = n := by rfl) (hdd : d1 + 1 ≤ d := by exact Nat.le_of_ble_eq_true rfl) (hst : xrs st := by exact Nat.le_of_ble_eq_true rfl) : xW g mi d pc L st0 A Q :=
  x_cv hw hd ha hci hc hsl hn hdd hst h0 (fun o A2 h => by obtain ⟨rfl, rfl⟩ := h; exact k)
theorem x_cvN {a ci : Nat} {fs : List Value} {q : vw_C} (hw : xCV mi.1.cls idx q.1 mj n) (hd : decode mi.2.1 pc = .ok (.invokevirtual idx, 3)) (ha : xAt g A a (.inr (ci, fs))) (hci : xcl[ci]? = some q) (hc : xC g mj d1 (.ref a :: av) A (xRet none A1)) (h0 : st0 = av.reverse ++ .ref a :: st) (k : xW g mi d (pc + 3) L st A1 Q) (hsl : (lg_sl (.ref a :: av)).length ≤ mj.2.2.1 := by exact Nat.le_of_ble_eq_true rfl) (hn : av.length = n := by rfl) (hdd : d1 + 1 ≤ d := by exact Nat.le_of_ble_eq_true rfl) (hst : xrs st := by exact Nat.le_of_ble_eq_true rfl) : xW g mi d pc L st0 A Q :=
  x_cv hw hd ha hci hc hsl hn hdd hst h0 (fun o A2 h => by obtain ⟨rfl, rfl⟩ := h; exact k)
theorem x_ciN {a : Nat} (hw : xCI mi.1.cls idx mj n) (hd : decode mi.2.1 pc = .ok (.invokespecial idx, 3)) (hc : xC g mj d1 (.ref a :: av) A (xRet none A1)) (h0 : st0 = av.reverse ++ .ref a :: st) (k : xW g mi d (pc + 3) L st A1 Q) (hsl : (lg_sl (.ref a :: av)).length ≤ mj.2.2.1 := by exact Nat.le_of_ble_eq_true rfl) (hn : av.length = n := by rfl) (hdd : d1 + 1 ≤ d := by exact Nat.le_of_ble_eq_true rfl) (hst : xrs st := by exact Nat.le_of_ble_eq_true rfl) : xW g mi d pc L st0 A Q :=
  x_ci hw hd hc hsl hn hdd hst h0 (fun o A2 h => by obtain ⟨rfl, rfl⟩ := h; exact k)
/-- the same, the receiver being the reference -/
theorem t_cvV {v : Value} {F' S' : Nat → Int32} {W' : Int64} {Z' : Nat → Nat → Int32} (hw : xCV mi.1.cls idx "FiddleRowModel" mj n) (hd : decode mi.2.1 pc = .ok (.invokevirtual idx, 3)) (hc : xC g mj d1 (.ref m :: av) (tA B m F W S Z) (xRet (some v) (tA B m F' W' S' Z'))) (h0 : st0 = av.reverse ++ .ref m :: st) (k : xW g mi d (pc + 3) L (v :: st) (tA B m F' W' S' Z') Q) (hsl : (lg_sl (.ref m :: av)).length ≤ mj.2.2.1 := by exact Nat.le_of_ble_eq_true rfl) (hn : av.length = n := by rfl) (hdd : d1 + 1 ≤ d := by exact Nat.le_of_ble_eq_true rfl) (hst : xrs st := by exact Nat.le_of_ble_eq_true rfl) : xW g mi d pc L st0 (tA B m F W S Z) Q :=
  x_cvV (q := (RX7, TX7, 32)) hw hd (Or.inl tA_o) rfl hc h0 k hsl hn hdd hst
theorem t_cvN {F' S' : Nat → Int32} {W' : Int64} {Z' : Nat → Nat → Int32} (hw : xCV mi.1.cls idx "FiddleRowModel" mj n) (hd : decode mi.2.1 pc = .ok (.invokevirtual idx, 3)) (hc : xC g mj d1 (.ref m :: av) (tA B m F W S Z) (xRet none (tA B m F' W' S' Z'))) (h0 : st0 = av.reverse ++ .ref m :: st) (k : xW g mi d (pc + 3) L st (tA B m F' W' S' Z') Q) (hsl : (lg_sl (.ref m :: av)).length ≤ mj.2.2.1 := by exact Nat.le_of_ble_eq_true rfl) (hn : av.length = n := by rfl) (hdd : d1 + 1 ≤ d := by exact Nat.le_of_ble_eq_true rfl) (hst : xrs st := by exact Nat.le_of_ble_eq_true rfl) : xW g mi d pc L st0 (tA B m F W S Z) Q :=
  x_cvN (q := (RX7, TX7, 32)) hw hd (Or.inl tA_o) rfl hc h0 k hsl hn hdd hst
end
end TW0

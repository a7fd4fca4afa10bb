/-! A SCRIPT's text of the reference: acts on the row and the obstacles -/
abbrev tH : Type := (Nat → Int32) × (Nat → Int32)
def caF (F : Nat → Int32) (z : Int32) : Nat → Int32 :=
  let F1 := upd F 27 (F 27 + (if z = 0 then 0 else 1))
  upd F1 24 (flI (z = 0 ∨ F1 27 = 40))
def acI (F : Nat → Int32) : Int32 := flI (¬ F 23 = 0 ∧ F 18 = 0 ∧ F 24 = 0)
def soI (o : Option tH) : Int32 := if o = none then 0 else 1
def doX (q : tQ) (h : tH) (o : Option tH) : tQ × tH := if acI q.1 = 0 then (q, h) else ((caF q.1 (match o with
  | none => 0
  | some _ => 1), q.2), match o with
  | none => h
  | some k => k)
def nmO (S : Nat → Int32) (x : Int32) : Option Nat := namS S x (manyS S) 0
def plO (S : Nat → Int32) (f : Nat) : Option Nat := plcS S (nI f) (rowS S) 0
def ntX (T : Nat → Int32) (q : tQ) : tQ := goX T (muF q.1 (nhI q.1) 1, q.2)
def ntI (q : tQ) : Int32 := if muF q.1 (nhI q.1) 1 18 = 0 then q.2.toInt32 else 0
def swF (n1 : Int32) (q : tQ) : Nat → Int32 :=
  let F1 := muF q.1 (nhI q.1) 1
  muF F1 (flI (¬ F1 18 = 0 ∨ ¬ q.2.toInt32 = n1)) 3
def swT (T : Nat → Int32) (n1 : Int32) (q : tQ) : tQ := ntX T (swF n1 q, q.2)
def swN (n1 : Int32) (q : tQ) : Int32 := ntI (swF n1 q, q.2)
def swO (h : tH) (a b : Option Nat) : Option tH := match a, b with
  | some x, some y => (match plO h.1 x, plO h.1 y with
    | some p, some r => some (swapS h.1 p r (nI x) (nI y), h.2)
    | _, _ => none)
  | _, _ => none
def swX (T : Nat → Int32) (n1 : Int32) (q : tQ) (h : tH) : tQ × tH := doX (swT T n1 q) h (swO h (nmO h.1 n1) (nmO h.1 (swN n1 q)))
def rwO (h : tH) (a : Option Nat) (lv : Int32) : Option tH := match a with
  | none => none
  | some f => (match plO h.1 f with
    | some p => if lv = 0 then none else some (leS h.1 p, h.2)
    | none => if lv = 0 then some (joS h.1 f, h.2) else none)
def rwX (q : tQ) (h : tH) (a : Option Nat) (lv : Int32) : tQ × tH := doX q h (rwO h a lv)
def stK (q : tQ) (k : Nat) (o : Option Nat) : Option Nat := if iwI q (tWords k) = 0 then o else some k
def stO (q : tQ) : Option Nat := stK q 3 (stK q 2 (stK q 1 (stK q 0 none)))
def sxT (T : Nat → Int32) (q : tQ) : tQ := goX T (muF q.1 (if oI (stO q) = -1 then 0 else 1) 1, q.2)
def sxN (T : Nat → Int32) (q : tQ) : Nat := if (sxT T q).1 18 = 0 then (stO q).getD 0 else 0
def soO (h : tH) (kind : Int64) (a : Option Nat) (k : Nat) (c : Int32) : Option tH := match a with
  | none => none
  | some f =>
    if kind = 677454 then (if hs h.1 f (13 + k) = 1 then none else some (turnsS h.1 f k c, h.2))
    else if kind = 3409291 then (if hs h.1 f (17 + k) < 9 ∧ 0 < h.1 3 then some (chalkS h.1 f k, h.2) else none)
    else (if hs h.1 f (13 + k) = 1 ∧ 0 < h.1 4 then some (replS h.1 f k, h.2) else none)
def soT (T : Nat → Int32) (kind : Int64) (q : tQ) : tQ := if kind = 677454 then cmX T 1 300 (sxT T q) else sxT T q
def soC (T : Nat → Int32) (kind : Int64) (q : tQ) : Int32 := if kind = 677454 then cmI T 1 300 (sxT T q) else 0
def soX (T : Nat → Int32) (kind : Int64) (a : Option Nat) (q : tQ) (h : tH) : tQ × tH := doX (soT T kind q) h (soO h kind a (sxN T q) (soC T kind q))
def noX (T : Nat → Int32) (kind : Int64) (q : tQ) (h : tH) : tQ × tH :=
  if kind = 646192 then swX T (ntI q) (ntX T q) h
  else if kind = 12748485 then rwX (ntX T q) h (nmO h.1 (ntI q)) 1
  else if kind = 343342 then rwX (ntX T q) h (nmO h.1 (ntI q)) 0
  else soX T kind (nmO h.1 (ntI q)) (ntX T q) h
def woT (T : Nat → Int32) (kind : Int64) (q : tQ) : tQ := if kind = 672734388 then rdX T 0 40 q else if kind = 8902227 then rdX T 1 48 q else q
def woV (T : Nat → Int32) (kind : Int64) (q : tQ) : Int32 := if kind = 672734388 then rdI T 0 40 q else if kind = 8902227 then rdI T 1 48 q else 0
def woO (h : tH) (kind : Int64) (v : Int32) : Option tH :=
  if kind = 672734388 then some (upd h.1 2 v, h.2)
  else if kind = 8902227 then (if h.1 0 + v ≤ 9999 then some (hoursS v.toNatClampNeg h.1, h.2) else none)
  else some (roundS h.1 h.2)
def woX (T : Nat → Int32) (kind : Int64) (q : tQ) (h : tH) : tQ × tH := doX (woT T kind q) h (woO h kind (woV T kind q))
def ofI (q : tQ) : Int32 := flI (¬ iwI q 677454 = 0 ∨ ¬ iwI q 3409291 = 0 ∨ ¬ iwI q 19512296549 = 0 ∨ ¬ iwI q 646192 = 0 ∨ ¬ iwI q 12748485 = 0 ∨ ¬ iwI q 343342 = 0)
/-! their order -/
theorem TI_nt {T : Nat → Int32} {q : tQ} (h : TI q.1) : TI (ntX T q).1 := TI_go (TI_mu h)
theorem TI_swF {n1 : Int32} {q : tQ} (h : TI q.1) : TI (swF n1 q) := TI_mu (TI_mu h)
theorem TI_swT {T : Nat → Int32} {n1 : Int32} {q : tQ} (h : TI q.1) : TI (swT T n1 q).1 := TI_nt (q := (swF n1 q, q.2)) (TI_swF h)
theorem TI_sx {T : Nat → Int32} {q : tQ} (h : TI q.1) : TI (sxT T q).1 := TI_go (TI_mu h)
theorem TI_soT {T : Nat → Int32} {kind : Int64} {q : tQ} (h : TI q.1) : TI (soT T kind q).1 := by
  unfold soT
  split
  · exact TI_cm (TI_sx h)
  · exact TI_sx h
theorem TI_woT {T : Nat → Int32} {kind : Int64} {q : tQ} (h : TI q.1) : TI (woT T kind q).1 := by
  unfold woT
  split
  · exact TI_rd h
  · split
    · exact TI_rd h
    · exact h
theorem TI_caF {F : Nat → Int32} {z : Int32} (h : TI F) : TI (caF F z) := TI_eq h rfl rfl rfl rfl
theorem doX_TI {q : tQ} {h : tH} {o : Option tH} (k : TI q.1) : TI (doX q h o).1.1 := by
  unfold doX
  split
  · exact k
  · exact TI_caF k
theorem stK_lt {q : tQ} {k : Nat} {o : Option Nat} (hk : k < 4) (h : ∀ i, o = some i → i < 4) : ∀ i, stK q k o = some i → i < 4 := by
  intro i hi
  unfold stK at hi
  split at hi
  · exact h i hi
  · cases hi; exact hk
theorem stO_lt {q : tQ} : ∀ i, stO q = some i → i < 4 := stK_lt (by omega) (stK_lt (by omega) (stK_lt (by omega) (stK_lt (by omega) (fun i hi => by cases hi))))
theorem sxN_lt {T : Nat → Int32} {q : tQ} : sxN T q < 4 := by
  unfold sxN
  split
  · cases e : stO q with
    | none => exact Nat.zero_lt_succ _
    | some i => exact stO_lt i e
  · omega
/-- the row's places hold different fiddlers that there are -/
def rOk (S : Nat → Int32) : Prop := tOk S ∧ (∀ p, p < rowS S → plS S p < manyS S) ∧ ∀ p r, p < r → r < rowS S → plS S p ≠ plS S r
theorem hole (n : Nat) : ∀ (m : Nat) (f : Nat → Nat), (∀ i, i < n → f i < m) → (∀ i j, i < j → j < n → f i ≠ f j) → n ≤ m := by
  induction n with
  | zero => intros; omega
  | succ n ih =>
    intro m f h1 h2
    match m, h1 with
    | 0, h1 => exact absurd (h1 0 (by omega)) (by omega)
    | m + 1, h1 =>
      -- swap the value of the last with the greatest
      have := ih m (fun i => if f i = m then f n else f i) (fun i hi => by
        show (if f i = m then f n else f i) < m
        have a := h1 i (by omega)
        have b := h1 n (by omega)
        have c := h2 i n hi (by omega)
        split <;> omega) (fun i j hij hj => by
        show (if f i = m then f n else f i) ≠ (if f j = m then f n else f j)
        have a := h2 i j hij (by omega)
        have b := h2 i n (by omega) (by omega)
        have c := h2 j n hj (by omega)
        split <;> split <;> omega)
      omega
theorem row_less {S : Nat → Int32} (h : rOk S) {f : Nat} (hf : f < manyS S) (hn : ∀ p, p < rowS S → plS S p ≠ f) : rowS S < manyS S := by
  have := hole (rowS S + 1) (manyS S) (fun i => if i = rowS S then f else plS S i) (fun i hi => by
    show (if i = rowS S then f else plS S i) < _
    split
    · exact hf
    · exact h.2.1 i (by omega)) (fun i j hij hj => by
    show (if i = rowS S then f else plS S i) ≠ (if j = rowS S then f else plS S j)
    split
    · omega
    · split
      · exact hn i (by omega)
      · exact h.2.2 i j hij (by omega))
  omega
theorem plc_none {S : Nat → Int32} {x : Int32} : ∀ {n i : Nat}, plcS S x n i = none → ∀ p, i ≤ p → p < i + n → ¬ S (20 + p) = x
  | 0, i, _, p, h1, h2 => by omega
  | n + 1, i, h, p, h1, h2 => by
    unfold plcS at h
    split at h
    · cases h
    · by_cases hp : p = i
      · subst hp; assumption
      · exact plc_none h p (by omega) (by omega)
theorem plO_row {S : Nat → Int32} (h : rOk S) {f : Nat} (hf : f < manyS S) (hn : plO S f = none) : rowS S < 10 := by
  have := row_less h hf (fun p hp e => plc_none hn p (Nat.zero_le _) (by omega) (by rw [(h.1.2.2 p hp).1, e]))
  have := h.1.1.2
  omega
theorem nmO_lt {S : Nat → Int32} {x : Int32} {f : Nat} (h : nmO S x = some f) : f < manyS S := by have := (nam_lt h).2.1; omega
theorem rd_rng {T : Nat → Int32} {lo hi : Int32} {q : tQ} (h : lo ≤ hi) : lo ≤ rdI T lo hi q ∧ rdI T lo hi q ≤ hi := by
  unfold rdI
  split
  · rename_i e
    unfold rdX at e
    rw [go_18] at e
    have h2 := mu_0 (by decide) e
    have e17 : rdF lo hi q.1 17 = muF q.1 (flI (q.1 16 = 2)) 1 17 := mu_o (by decide) (by decide)
    rw [e17]
    have h3 : ¬ inI (muF q.1 (flI (q.1 16 = 2)) 1 17) lo hi = 0 := h2.2.1
    rw [inI_1] at h3
    exact Decidable.not_not.mp h3
  · exact ⟨Int32.le_refl _, h⟩
theorem doX_0 {q : tQ} {h : tH} {o : Option tH} (h0 : acI q.1 = 0) : doX q h o = (q, h) := if_pos h0
theorem doX_n {q : tQ} {h : tH} (h0 : ¬ acI q.1 = 0) : doX q h none = ((caF q.1 0, q.2), h) := if_neg h0
theorem doX_s {q : tQ} {h k : tH} (h0 : ¬ acI q.1 = 0) : doX q h (some k) = ((caF q.1 1, q.2), k) := if_neg h0
theorem oI_y {a : Option Nat} (h : ¬ oI a = -1) : ∃ x, a = some x := by
  cases a with
  | none => exact absurd rfl h
  | some x => exact ⟨x, rfl⟩
theorem nn_y {α : Type} {a : Option α} (h : a ≠ none) : ∃ x, a = some x := by
  cases a with
  | none => exact absurd rfl h
  | some x => exact ⟨x, rfl⟩
theorem oI_nm {S : Nat → Int32} {x : Int32} (hk : tOk S) : oI (nmO S x) = -1 ↔ nmO S x = none := oI_nam hk
theorem oI_pl {S : Nat → Int32} {f : Nat} (hk : tOk S) : oI (plO S f) = -1 ↔ plO S f = none := oI_plc hk
theorem oI_m {a : Option Nat} (h : ∀ i, a = some i → i < 10) : oI a = -1 ↔ a = none := oI_1 (fun i hi => by have := h i hi; omega)

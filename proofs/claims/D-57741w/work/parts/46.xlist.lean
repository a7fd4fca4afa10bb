/-! HEAPS AS A LIST from an address on: what is born there in its order -/
def xl (B : xA) (m : Nat) (es : List xE) (sl : Nat) : xA := (fun a => if m ≤ a ∧ a < m + es.length then es[a - m]? else B.1 a, m + es.length, sl)
theorem xl_at {B : xA} {m sl k : Nat} {es : List xE} {e : xE} (h : es[k]? = some e) : (xl B m es sl).1 (m + k) = some e := by
  have hk : k < es.length := by
    have := List.getElem?_eq_some_iff.mp h
    exact this.1
  show (if m ≤ m + k ∧ m + k < m + es.length then es[m + k - m]? else B.1 (m + k)) = some e
  rw [if_pos ⟨by omega, by omega⟩, Nat.add_sub_cancel_left, h]
theorem xl_up {B : xA} {m sl k : Nat} {es : List xE} {e : xE} (h : k < es.length) : xup (xl B m es sl) (m + k) e = xl B m (es.set k e) sl := by
  refine Prod.ext (funext fun a => ?_) (by show (m + es.length, sl) = (m + (es.set k e).length, sl); rw [List.length_set])
  show va_up (fun a => if m ≤ a ∧ a < m + es.length then es[a - m]? else B.1 a) (m + k) (some e) a = (if m ≤ a ∧ a < m + (es.set k e).length then (es.set k e)[a - m]? else B.1 a)
  rw [List.length_set]
  by_cases ha : a = m + k
  · subst ha
    rw [va_up_self, if_pos ⟨by omega, by omega⟩, Nat.add_sub_cancel_left, List.getElem?_set_self h]
  · rw [va_up_ne _ _ ha]
    show (if m ≤ a ∧ a < m + es.length then es[a - m]? else B.1 a) = _
    by_cases hr : m ≤ a ∧ a < m + es.length
    · rw [if_pos hr, if_pos hr, List.getElem?_set_ne (by omega)]
    · rw [if_neg hr, if_neg hr]
theorem xl_al {B : xA} {m sl n : Nat} {es : List xE} {e : xE} : xal (xl B m es sl) e n = xl B m (es ++ [e]) (sl + n) := by
  refine Prod.ext (funext fun a => ?_) (by show (m + es.length + 1, sl + n) = (m + (es ++ [e]).length, sl + n); rw [List.length_append]; rfl)
  show va_up (fun a => if m ≤ a ∧ a < m + es.length then es[a - m]? else B.1 a) (m + es.length) (some e) a = (if m ≤ a ∧ a < m + (es ++ [e]).length then (es ++ [e])[a - m]? else B.1 a)
  rw [List.length_append, show [e].length = 1 from rfl]
  by_cases ha : a = m + es.length
  · subst ha
    rw [va_up_self, if_pos ⟨by omega, by omega⟩, Nat.add_sub_cancel_left, List.getElem?_append_right (Nat.le_refl _), Nat.sub_self]
    rfl
  · rw [va_up_ne _ _ ha]
    show (if m ≤ a ∧ a < m + es.length then es[a - m]? else B.1 a) = _
    by_cases hr : m ≤ a ∧ a < m + es.length
    · rw [if_pos hr, if_pos ⟨hr.1, by omega⟩, List.getElem?_append_left (by omega)]
    · rw [if_neg hr, if_neg (by omega)]
theorem xl_1 {A : xA} {e : xE} {n : Nat} : xal A e n = xl A A.2.1 [e] (A.2.2 + n) := by
  refine Prod.ext (funext fun a => ?_) rfl
  show va_up A.1 A.2.1 (some e) a = (if A.2.1 ≤ a ∧ a < A.2.1 + 1 then [e][a - A.2.1]? else A.1 a)
  by_cases ha : a = A.2.1
  · subst ha
    rw [va_up_self, if_pos ⟨by omega, by omega⟩, Nat.sub_self]
    rfl
  · rw [va_up_ne _ _ ha, if_neg (by omega)]
section
variable {g : xG} {mi : xM} {d pc idx : Nat} {L : List (Option Value)} {st : List Value} {Q : Outcome → xA → Prop} {B : xA} {m sl : Nat} {es : List xE}
theorem x_newL {t N' k : Nat} {at9 : ArrayType} {x : Nat → vp_A} {n : Int32} (hx : xNA t at9 x) (hq : Cond.arrayClass (newarray.typeOf at9) ∈ lw_all) (hd : decode mi.2.1 pc = .ok (.newarray at9, 2)) (hn : ¬ n < 0) (hN : n.toNatClampNeg = N') (hb9 : N' ≤ 65536) (hk : es.length = k) (kk : xW g mi d (pc + 2) L (.ref (m + k) :: st) (xl B m (es ++ [.inl (t, x N')]) (sl + N')) Q) : xW g mi d pc L (.int n :: st) (xl B m es sl) Q := by
  subst hk
  refine x_newa hx hq hd hn hN hb9 ?_
  rw [xl_al]
  exact kk
theorem x_putFL {k j a : Nat} {fs : List Value} {v : Value} {ty : FieldType} (a0 : Nat) (hF : xFF mi.1.cls idx k j ty) (hin2 : mi.1.name = "<init>") (hd : decode mi.2.1 pc = .ok (.putfield idx, 3)) (ha : es[a0]? = some (.inr (k, fs))) (hv : xfit ty v) (hjl : j < fs.length) (h0 : m + a0 = a) (kq : xW g mi d (pc + 3) L st (xl B m (es.set a0 (.inr (k, fs.set j v))) sl) Q) : xW g mi d pc L (v :: .ref a :: st) (xl B m es sl) Q := by
  subst h0
  refine x_putF hF hin2 hd (xl_at ha) hv hjl ?_
  rw [xl_up (List.getElem?_eq_some_iff.mp ha).1]
  exact kq
theorem x_putL {k j a : Nat} {fs : List Value} {v : Value} {ty : FieldType} (a0 : Nat) (hF : xFP mi.1.cls idx k j ty) (hd : decode mi.2.1 pc = .ok (.putfield idx, 3)) (ha : es[a0]? = some (.inr (k, fs))) (hv : xfit ty v) (hjl : j < fs.length) (h0 : m + a0 = a) (kq : xW g mi d (pc + 3) L st (xl B m (es.set a0 (.inr (k, fs.set j v))) sl) Q) : xW g mi d pc L (v :: .ref a :: st) (xl B m es sl) Q := by
  subst h0
  refine x_put hF hd (xl_at ha) hv hjl ?_
  rw [xl_up (List.getElem?_eq_some_iff.mp ha).1]
  exact kq
theorem x_iastL {a n : Nat} {f : Nat → Int32} {i x : Int32} (a0 i0 : Nat) (hd : decode mi.2.1 pc = .ok (.iastore, 1)) (ha : es[a0]? = some (.inl (0, n, .inl f))) (hin : vp_in i n) (hc : i.toNatClampNeg = i0) (h0 : m + a0 = a) (kq : xW g mi d (pc + 1) L st (xl B m (es.set a0 (.inl (0, n, .inl (upd f i0 x)))) sl) Q) : xW g mi d pc L (.int x :: .int i :: .ref a :: st) (xl B m es sl) Q := by
  subst h0
  subst hc
  refine x_iast hd (xl_at ha) hin ?_
  rw [xl_up (List.getElem?_eq_some_iff.mp ha).1]
  exact kq
theorem x_lastL {a n : Nat} {f : Nat → Int64} {i : Int32} {x : Int64} (a0 i0 : Nat) (hd : decode mi.2.1 pc = .ok (.lastore, 1)) (ha : es[a0]? = some (.inl (3, n, .inr (.inl f)))) (hin : vp_in i n) (hc : i.toNatClampNeg = i0) (h0 : m + a0 = a) (kq : xW g mi d (pc + 1) L st (xl B m (es.set a0 (.inl (3, n, .inr (.inl (vp_updL f i0 x))))) sl) Q) : xW g mi d pc L (.long x :: .int i :: .ref a :: st) (xl B m es sl) Q := by
  subst h0
  subst hc
  refine x_last hd (xl_at ha) hin ?_
  rw [xl_up (List.getElem?_eq_some_iff.mp ha).1]
  exact kq
end
theorem tA_xl {B : xA} {m sl : Nat} {es : List xE} {F : Nat → Int32} {W : Int64} {S : Nat → Int32} {Z : Nat → Nat → Int32} (hl : es.length = 14) (h : ∀ k, k ≤ 13 → es[k]? = some (tCell m F W S Z k)) : xl B m es sl = tA (B.1, m + 14, sl) m F W S Z := by
  refine Prod.ext (funext fun a => ?_) (by show (m + es.length, sl) = (m + 14, sl); rw [hl])
  show (if m ≤ a ∧ a < m + es.length then es[a - m]? else B.1 a) = (if m ≤ a ∧ a ≤ m + 13 then some (tCell m F W S Z (a - m)) else B.1 a)
  rw [hl]
  by_cases hr : m ≤ a ∧ a ≤ m + 13
  · rw [if_pos ⟨hr.1, by omega⟩, if_pos hr, h (a - m) (by omega)]
  · rw [if_neg (by omega), if_neg hr]

/-! HEAPS OF THE COMPONENT: overlays of a base heap -/
theorem xup_id {A : xA} {a : Nat} {e : xE} (h : A.1 a = some e) : xup A a e = A := by
  refine Prod.ext (funext fun b => ?_) rfl
  by_cases hb : b = a
  · subst hb; rw [xup_self, h]
  · rw [xup_ne hb]
theorem xup_comm {A : xA} {a b : Nat} {e e' : xE} (h : a ≠ b) : xup (xup A a e) b e' = xup (xup A b e') a e := by
  refine Prod.ext (funext fun c => ?_) rfl
  by_cases hb : c = b
  · subst hb; rw [xup_self, xup_ne (Ne.symm h), xup_self]
  · rw [xup_ne hb]
    by_cases ha : c = a
    · subst ha; rw [xup_self, xup_self]
    · rw [xup_ne ha, xup_ne ha, xup_ne hb]
/-- room taken -/
def xbp (A : xA) (n : Nat) : xA := (A.1, A.2.1 + 1, A.2.2 + n)
def ov (A : xA) : List (Nat × xE) → xA
  | [] => A
  | w :: ws => xup (ov A ws) w.1 w.2
def ovD : List Nat → Prop
  | [] => True
  | a :: as => (∀ b, b ∈ as → b ≠ a) ∧ ovD as
theorem ov_2 (A : xA) : ∀ ws, (ov A ws).2 = A.2
  | [] => rfl
  | _ :: ws => ov_2 A ws
theorem ov_at {A : xA} : ∀ {ws : List (Nat × xE)} {i a : Nat} {e : xE}, ovD (ws.map Prod.fst) → ws[i]? = some (a, e) → (ov A ws).1 a = some e
  | [], i, a, e, _, h => by simp at h
  | w :: ws, 0, a, e, _, h => by
    have h1 : w = (a, e) := by simpa using h
    subst h1
    exact xup_self
  | w :: ws, i + 1, a, e, hD, h => by
    have h1 : ws[i]? = some (a, e) := by simpa using h
    have hm : a ∈ ws.map Prod.fst := List.mem_map.mpr ⟨(a, e), List.mem_of_getElem? h1, rfl⟩
    exact (xup_ne (hD.1 a hm)).trans (ov_at hD.2 h1)
theorem ov_up {A : xA} {e : xE} : ∀ {ws : List (Nat × xE)} {i a : Nat} {e0 : xE}, ovD (ws.map Prod.fst) → ws[i]? = some (a, e0) → xup (ov A ws) a e = ov A (ws.set i (a, e))
  | [], i, a, e0, _, h => by simp at h
  | w :: ws, 0, a, e0, _, h => by
    have h1 : w = (a, e0) := by simpa using h
    subst h1
    exact xup_xup
  | w :: ws, i + 1, a, e0, hD, h => by
    have h1 : ws[i]? = some (a, e0) := by simpa using h
    have hm : a ∈ ws.map Prod.fst := List.mem_map.mpr ⟨(a, e0), List.mem_of_getElem? h1, rfl⟩
    show xup (xup (ov A ws) w.1 w.2) a e = xup (ov A (ws.set i (a, e))) w.1 w.2
    rw [← ov_up hD.2 h1]
    exact xup_comm (Ne.symm (hD.1 a hm))
theorem ov_bp1 (A : xA) (n : Nat) : ∀ ws, (ov (xbp A n) ws).1 = (ov A ws).1
  | [] => rfl
  | w :: ws => by
    show va_up (ov (xbp A n) ws).1 w.1 (some w.2) = va_up (ov A ws).1 w.1 (some w.2)
    rw [ov_bp1 A n ws]
theorem ov_al (A : xA) (ws : List (Nat × xE)) (e : xE) (n : Nat) : xal (ov A ws) e n = ov (xbp A n) ((A.2.1, e) :: ws) := by
  show (va_up (ov A ws).1 (ov A ws).2.1 (some e), (ov A ws).2.1 + 1, (ov A ws).2.2 + n) = (va_up (ov (xbp A n) ws).1 A.2.1 (some e), (ov (xbp A n) ws).2)
  rw [ov_bp1, ov_2, ov_2]
  rfl
theorem ovD_cons {a : Nat} {as : List Nat} (h : ∀ b, b ∈ as → b < a) (k : ovD as) : ovD (a :: as) := ⟨fun b hb => Nat.ne_of_lt (h b hb), k⟩
def ovL (n : Nat) (as : List Nat) : Prop := ∀ b, b ∈ as → b < n
theorem ovL_cons {n : Nat} {as : List Nat} (h : ovL n as) : ovL (n + 1) (n :: as) := fun b hb => by
  rcases List.mem_cons.mp hb with e | e
  · omega
  · have := h b e; omega
theorem ov_out {A : xA} {b : Nat} : ∀ {ws : List (Nat × xE)}, (∀ a, a ∈ ws.map Prod.fst → b ≠ a) → (ov A ws).1 b = A.1 b
  | [], _ => rfl
  | w :: ws, h => (xup_ne (h w.1 (List.mem_cons_self))).trans (ov_out (fun a ha => h a (List.mem_cons_of_mem _ ha)))
theorem ov_id {A : xA} : ∀ {ws : List (Nat × xE)}, (∀ a e, (a, e) ∈ ws → A.1 a = some e) → ov A ws = A
  | [], _ => rfl
  | w :: ws, h => by
    show xup (ov A ws) w.1 w.2 = A
    rw [ov_id (fun a e ha => h a e (List.mem_cons_of_mem _ ha))]
    exact xup_id (h w.1 w.2 List.mem_cons_self)
theorem ov_1 {A : xA} {a : Nat} {e : xE} (h : A.1 a = some e) : A = ov A [(a, e)] := (xup_id h).symm
theorem ov_12 {A : xA} {a b : Nat} {e e' : xE} (h : A.1 a = some e) (h' : A.1 b = some e') : A = ov A [(a, e), (b, e')] := (ov_id (fun x y hxy => by
  simp at hxy
  rcases hxy with ⟨rfl, rfl⟩ | ⟨rfl, rfl⟩
  · exact h
  · exact h')).symm
theorem ovD_1 {a : Nat} : ovD [a] := ⟨fun b hb => by simp at hb, trivial⟩
theorem ovD_2 {a b : Nat} (h : b ≠ a) : ovD [a, b] := ⟨fun c hc => by simp at hc; rw [hc]; exact h, ovD_1⟩
theorem xdf {A : xA} {a b : Nat} {e e' : xE} (h : A.1 a = some e) (h' : A.1 b = some e') (hn : e ≠ e') : a ≠ b := fun k => hn (by subst k; exact Option.some.inj (h.symm.trans h'))
theorem xne_c {c c' : Nat} {fs fs' : List Value} (h : c ≠ c') : (Sum.inr (c, fs) : xE) ≠ Sum.inr (c', fs') := fun k => h (by injection k with k; injection k)
theorem xne_a {c t : Nat} {fs : List Value} {x : vp_A} : (Sum.inr (c, fs) : xE) ≠ Sum.inl (t, x) := fun k => by cases k
theorem xne_a' {c t : Nat} {fs : List Value} {x : vp_A} : (Sum.inl (t, x) : xE) ≠ Sum.inr (c, fs) := fun k => by cases k
section XHR
variable {g : xG} {mi : xM} {d pc idx : Nat} {L : List (Option Value)} {st : List Value} {A : xA} {Q : Outcome → xA → Prop} {ws : List (Nat × xE)}
theorem v_get {i k j a : Nat} {fs : List Value} {v : Value} (hD : ovD (ws.map Prod.fst)) (hw : ws[i]? = some (a, .inr (k, fs))) (hF : xFL mi.1.cls idx k j) (hd : decode mi.2.1 pc = .ok (.getfield idx, 3)) (hv : fs[j]? = some v) (kq : xW g mi d (pc + 3) L (v :: st) (ov A ws) Q) : xW g mi d pc L (.ref a :: st) (ov A ws) Q := x_get hF hd (Or.inl (ov_at hD hw)) hv kq
theorem v_put {i k j a : Nat} {fs : List Value} {v : Value} {ty : FieldType} (hD : ovD (ws.map Prod.fst)) (hw : ws[i]? = some (a, .inr (k, fs))) (hF : xFP mi.1.cls idx k j ty) (hd : decode mi.2.1 pc = .ok (.putfield idx, 3)) (hv : xfit ty v) (hjl : j < fs.length) (kq : xW g mi d (pc + 3) L st (ov A (ws.set i (a, .inr (k, fs.set j v)))) Q) : xW g mi d pc L (v :: .ref a :: st) (ov A ws) Q := by
  refine x_put hF hd (ov_at hD hw) hv hjl ?_
  rw [ov_up hD hw]
  exact kq
theorem v_putF {i k j a : Nat} {fs : List Value} {v : Value} {ty : FieldType} (hD : ovD (ws.map Prod.fst)) (hw : ws[i]? = some (a, .inr (k, fs))) (hF : xFF mi.1.cls idx k j ty) (hin2 : mi.1.name = "<init>") (hd : decode mi.2.1 pc = .ok (.putfield idx, 3)) (hv : xfit ty v) (hjl : j < fs.length) (kq : xW g mi d (pc + 3) L st (ov A (ws.set i (a, .inr (k, fs.set j v)))) Q) : xW g mi d pc L (v :: .ref a :: st) (ov A ws) Q := by
  refine x_putF hF hin2 hd (ov_at hD hw) hv hjl ?_
  rw [ov_up hD hw]
  exact kq
theorem v_new {k9 n : Nat} {fs : List Value} (hw : xNW mi.1.cls idx k9 n fs) (hd : decode mi.2.1 pc = .ok (.new idx, 3)) (k : xW g mi d (pc + 3) L (.ref A.2.1 :: st) (ov (xbp A n) ((A.2.1, .inr (k9, fs)) :: ws)) Q) : xW g mi d pc L st (ov A ws) Q := by
  refine x_new hw hd ?_
  rw [ov_al, ov_2]
  exact k
theorem v_newa {t N' : Nat} {at9 : ArrayType} {x : Nat → vp_A} {n : Int32} (hx : xNA t at9 x) (hq : Cond.arrayClass (newarray.typeOf at9) ∈ lw_all) (hd : decode mi.2.1 pc = .ok (.newarray at9, 2)) (hn : ¬ n < 0) (hN : n.toNatClampNeg = N') (hb9 : N' ≤ 65536) (k : xW g mi d (pc + 2) L (.ref A.2.1 :: st) (ov (xbp A N') ((A.2.1, .inl (t, x N')) :: ws)) Q) : xW g mi d pc L (.int n :: st) (ov A ws) Q := by
  refine x_newa hx hq hd hn hN hb9 ?_
  rw [ov_al, ov_2]
  exact k
theorem v_newq {t N' : Nat} {C : String} {n : Int32} (ht : (xtys g)[t]? = some (xaC g t, .object C)) (hlk : Cond.classLink mi.1.cls idx C ∈ lw_all) (hov : Cond.arrayOver (.object C) ∈ lw_tbl) (hd : decode mi.2.1 pc = .ok (.anewarray idx, 3)) (hn : ¬ n < 0) (hN : n.toNatClampNeg = N') (hb9 : N' ≤ 65536) (k : xW g mi d (pc + 3) L (.ref A.2.1 :: st) (ov (xbp A N') ((A.2.1, .inl (t, N', .inr (.inr (.inr (.inr fun _ => none))))) :: ws)) Q) : xW g mi d pc L (.int n :: st) (ov A ws) Q := by
  refine x_newq ht hlk hov hd hn hN hb9 ?_
  rw [ov_al, ov_2]
  exact k
theorem v_iald {i a n : Nat} {f : Nat → Int32} {x : Int32} (hD : ovD (ws.map Prod.fst)) (hw : ws[i]? = some (a, .inl (0, n, .inl f))) (hd : decode mi.2.1 pc = .ok (.iaload, 1)) (hin : vp_in x n) (k : xW g mi d (pc + 1) L (.int (f x.toNatClampNeg) :: st) (ov A ws) Q) : xW g mi d pc L (.int x :: .ref a :: st) (ov A ws) Q := x_iald hd (Or.inl (ov_at hD hw)) hin k
theorem v_iast {i a n : Nat} {f : Nat → Int32} {x y : Int32} (hD : ovD (ws.map Prod.fst)) (hw : ws[i]? = some (a, .inl (0, n, .inl f))) (hd : decode mi.2.1 pc = .ok (.iastore, 1)) (hin : vp_in x n) (k : xW g mi d (pc + 1) L st (ov A (ws.set i (a, .inl (0, n, .inl (upd f x.toNatClampNeg y))))) Q) : xW g mi d pc L (.int y :: .int x :: .ref a :: st) (ov A ws) Q := by
  refine x_iast hd (ov_at hD hw) hin ?_
  rw [ov_up hD hw]
  exact k
theorem v_ald {t i a n : Nat} {C : String} {f : Nat → Option Nat} {x : Int32} (hD : ovD (ws.map Prod.fst)) (hw : ws[i]? = some (a, .inl (t, n, .inr (.inr (.inr (.inr f)))))) (hd : decode mi.2.1 pc = .ok (.aaload, 1)) (ht : (xtys g)[t]? = some (xaC g t, .object C)) (hin : vp_in x n) (k : xW g mi d (pc + 1) L (va_rf (f x.toNatClampNeg) :: st) (ov A ws) Q) : xW g mi d pc L (.int x :: .ref a :: st) (ov A ws) Q := x_ald hd ht (Or.inl (ov_at hD hw)) hin k
theorem v_astN {t i a n : Nat} {C : String} {f : Nat → Option Nat} {x : Int32} (hD : ovD (ws.map Prod.fst)) (hw : ws[i]? = some (a, .inl (t, n, .inr (.inr (.inr (.inr f)))))) (hd : decode mi.2.1 pc = .ok (.aastore, 1)) (ht : (xtys g)[t]? = some (xaC g t, .object C)) (hin : vp_in x n) (k : xW g mi d (pc + 1) L st (ov A (ws.set i (a, .inl (t, n, .inr (.inr (.inr (.inr (va_up f x.toNatClampNeg none)))))))) Q) : xW g mi d pc L (.null :: .int x :: .ref a :: st) (ov A ws) Q := by
  refine x_astN hd ht (ov_at hD hw) hin ?_
  rw [ov_up hD hw]
  exact k
theorem v_ast {t i a n ci v : Nat} {C : String} {vs : List Value} {f : Nat → Option Nat} {x : Int32} {cl1 : vw_C} (hD : ovD (ws.map Prod.fst)) (hw : ws[i]? = some (a, .inl (t, n, .inr (.inr (.inr (.inr f)))))) (hd : decode mi.2.1 pc = .ok (.aastore, 1)) (ht : (xtys g)[t]? = some (xaC g t, .object C)) (hv : xAt g (ov A ws) v (.inr (ci, vs))) (hc : xcl[ci]? = some cl1) (hcs : cl1.1 = C ∨ Cond.castable cl1.1 C ∈ lw_tbl) (hin : vp_in x n) (k : xW g mi d (pc + 1) L st (ov A (ws.set i (a, .inl (t, n, .inr (.inr (.inr (.inr (va_up f x.toNatClampNeg (some v))))))))) Q) : xW g mi d pc L (.ref v :: .int x :: .ref a :: st) (ov A ws) Q := by
  refine x_ast hd ht (ov_at hD hw) hv hc hcs hin ?_
  rw [ov_up hD hw]
  exact k
theorem xW.at1 {a : Nat} {e : xE} (h : A.1 a = some e) (k : xW g mi d pc L st (ov A [(a, e)]) Q) : xW g mi d pc L st A Q := xW.eqA (ov_1 h) k
theorem xW.at2 {a b : Nat} {e e' : xE} (h : A.1 a = some e) (h' : A.1 b = some e') (k : xW g mi d pc L st (ov A [(a, e), (b, e')]) Q) : xW g mi d pc L st A Q := xW.eqA (ov_12 h h') k
end XHR
/-- the world's constants that the component and the JDK read -/
def gW (g : xG) (E : Nat → Nat) : Prop :=
  g.1.stackTraces = false ∧
  (xsv g "java/util/ArrayList" "DEFAULTCAPACITY_EMPTY_ELEMENTDATA" "[Ljava/lang/Object;" (.ref (E 0)) ∧ xcw g (E 0) (.inl (5, 0, .inr (.inr (.inr (.inr fun _ => none)))))) ∧
  (xsv g "java/util/HashSet" "PRESENT" "Ljava/lang/Object;" (.ref (E 1)) ∧ xcw g (E 1) (.inr (30, []))) ∧
  (xsv g "FiddleRow$Token" "END" "LFiddleRow$Token;" (.ref (E 3)) ∧ xsv g "FiddleRow$Token" "WORD" "LFiddleRow$Token;" (.ref (E 4)) ∧ xsv g "FiddleRow$Token" "NUMBER" "LFiddleRow$Token;" (.ref (E 5)) ∧ xsv g "FiddleRow$Token" "SIGN" "LFiddleRow$Token;" (.ref (E 6)) ∧ E 3 ≠ E 4 ∧ E 3 ≠ E 5 ∧ E 3 ≠ E 6 ∧ E 4 ≠ E 5 ∧ E 4 ≠ E 6 ∧ E 5 ≠ E 6) ∧
  xsv g "java/lang/String" "COMPACT_STRINGS" "Z" (.int 1) ∧
  (xsv g "java/lang/Integer" "DigitOnes" "[B" (.ref (E 7)) ∧ xcw g (E 7) (.inl (1, 100, .inl fun i => nI (48 + i % 10)))) ∧
  (xsv g "java/lang/Integer" "DigitTens" "[B" (.ref (E 8)) ∧ xcw g (E 8) (.inl (1, 100, .inl fun i => nI (48 + i / 10))))
/-- a new exception of class k is thrown -/
def xThr (k : Nat) (A : xA) : Outcome → xA → Prop := fun o A' => o = .threw A.2.1 ∧ A' = xal A (.inr (k, [])) 6
/-! calls whose contracts say what holds afterwards -/
def xRs (P : Option Value → xA → Prop) : Outcome → xA → Prop := fun o A' => ∃ v, o = .returned v ∧ P v A'
def xTs (P : Nat → xA → Prop) : Outcome → xA → Prop := fun o A' => ∃ q, o = .threw q ∧ P q A'
section XHC
variable {g : xG} {mi mj : xM} {d d1 pc idx n : Nat} {L : List (Option Value)} {st st0 av : List Value} {A A1 : xA} {Q : Outcome → xA → Prop} {P : Option Value → xA → Prop} {PT : Nat → xA → Prop} {v : Value}
theorem v_csE  (hw : xCS mi.1.cls idx mj n) (hd : decode mi.2.1 pc = .ok (.invokestatic idx, 3))  (hc : xC g mj d1 av A (xRs P)) (h0 : st0 = av.reverse ++ st) (k : ∀ v A1, P v A1 → xW g mi d (pc + 3) L (v.toList ++ st) A1 Q) (hsl : (lg_sl av).length ≤ mj.2.2.1 := by exact Nat.le_of_ble_eq_true rfl) (hn : av.length = n := by rfl) (hdd : d1 + 1 ≤ d := by exact Nat.le_of_ble_eq_true rfl) (hst : xrs st := by exact Nat.le_of_ble_eq_true rfl) : xW g mi d pc L st0 A Q :=
  x_cs hw hd hc hsl hn hdd hst h0 (fun o A2 h => by obtain ⟨v, rfl, h⟩ := h; exact k v A2 h)
theorem v_csT  (hw : xCS mi.1.cls idx mj n) (hd : decode mi.2.1 pc = .ok (.invokestatic idx, 3))  (hc : xC g mj d1 av A (xTs PT)) (h0 : st0 = av.reverse ++ st) (k : ∀ q A1, PT q A1 → xX g mi d pc L q A1 Q) (hsl : (lg_sl av).length ≤ mj.2.2.1 := by exact Nat.le_of_ble_eq_true rfl) (hn : av.length = n := by rfl) (hdd : d1 + 1 ≤ d := by exact Nat.le_of_ble_eq_true rfl) (hst : xrs st := by exact Nat.le_of_ble_eq_true rfl) : xW g mi d pc L st0 A Q :=
  x_cs hw hd hc hsl hn hdd hst h0 (fun o A2 h => by obtain ⟨v, rfl, h⟩ := h; exact k v A2 h)
theorem v_cvE {a ci : Nat} {fs : List Value} {q : vw_C} (hw : xCV mi.1.cls idx q.1 mj n) (hd : decode mi.2.1 pc = .ok (.invokevirtual idx, 3)) (ha : xAt g A a (.inr (ci, fs))) (hci : xcl[ci]? = some q) (hc : xC g mj d1 (.ref a :: av) A (xRs P)) (h0 : st0 = av.reverse ++ .ref a :: st) (k : ∀ v A1, P v A1 → xW g mi d (pc + 3) L (v.toList ++ st) A1 Q) (hsl : (lg_sl (.ref a :: av)).length ≤ mj.2.2.1 := by exact Nat.le_of_ble_eq_true rfl) (hn : av.length = n := by rfl) (hdd : d1 + 1 ≤ d := by exact Nat.le_of_ble_eq_true rfl) (hst : xrs st := by exact Nat.le_of_ble_eq_true rfl) : xW g mi d pc L st0 A Q :=
  x_cv hw hd ha hci hc hsl hn hdd hst h0 (fun o A2 h => by obtain ⟨v, rfl, h⟩ := h; exact k v A2 h)
theorem v_cvT {a ci : Nat} {fs : List Value} {q : vw_C} (hw : xCV mi.1.cls idx q.1 mj n) (hd : decode mi.2.1 pc = .ok (.invokevirtual idx, 3)) (ha : xAt g A a (.inr (ci, fs))) (hci : xcl[ci]? = some q) (hc : xC g mj d1 (.ref a :: av) A (xTs PT)) (h0 : st0 = av.reverse ++ .ref a :: st) (k : ∀ q A1, PT q A1 → xX g mi d pc L q A1 Q) (hsl : (lg_sl (.ref a :: av)).length ≤ mj.2.2.1 := by exact Nat.le_of_ble_eq_true rfl) (hn : av.length = n := by rfl) (hdd : d1 + 1 ≤ d := by exact Nat.le_of_ble_eq_true rfl) (hst : xrs st := by exact Nat.le_of_ble_eq_true rfl) : xW g mi d pc L st0 A Q :=
  x_cv hw hd ha hci hc hsl hn hdd hst h0 (fun o A2 h => by obtain ⟨v, rfl, h⟩ := h; exact k v A2 h)
theorem v_cfE {a ci count : Nat} {fs : List Value} {q : vw_C} (hw : xCF mi.1.cls idx q.1 mj n) (hd : decode mi.2.1 pc = .ok (.invokeinterface idx count, 5)) (ha : xAt g A a (.inr (ci, fs))) (hci : xcl[ci]? = some q) (hc : xC g mj d1 (.ref a :: av) A (xRs P)) (h0 : st0 = av.reverse ++ .ref a :: st) (k : ∀ v A1, P v A1 → xW g mi d (pc + 5) L (v.toList ++ st) A1 Q) (hsl : (lg_sl (.ref a :: av)).length ≤ mj.2.2.1 := by exact Nat.le_of_ble_eq_true rfl) (hn : av.length = n := by rfl) (hdd : d1 + 1 ≤ d := by exact Nat.le_of_ble_eq_true rfl) (hst : xrs st := by exact Nat.le_of_ble_eq_true rfl) : xW g mi d pc L st0 A Q :=
  x_cf hw hd ha hci hc hsl hn hdd hst h0 (fun o A2 h => by obtain ⟨v, rfl, h⟩ := h; exact k v A2 h)
theorem v_cfT {a ci count : Nat} {fs : List Value} {q : vw_C} (hw : xCF mi.1.cls idx q.1 mj n) (hd : decode mi.2.1 pc = .ok (.invokeinterface idx count, 5)) (ha : xAt g A a (.inr (ci, fs))) (hci : xcl[ci]? = some q) (hc : xC g mj d1 (.ref a :: av) A (xTs PT)) (h0 : st0 = av.reverse ++ .ref a :: st) (k : ∀ q A1, PT q A1 → xX g mi d pc L q A1 Q) (hsl : (lg_sl (.ref a :: av)).length ≤ mj.2.2.1 := by exact Nat.le_of_ble_eq_true rfl) (hn : av.length = n := by rfl) (hdd : d1 + 1 ≤ d := by exact Nat.le_of_ble_eq_true rfl) (hst : xrs st := by exact Nat.le_of_ble_eq_true rfl) : xW g mi d pc L st0 A Q :=
  x_cf hw hd ha hci hc hsl hn hdd hst h0 (fun o A2 h => by obtain ⟨v, rfl, h⟩ := h; exact k v A2 h)
theorem x_cfV {a ci count : Nat} {fs : List Value} {q : vw_C} (hw : xCF mi.1.cls idx q.1 mj n) (hd : decode mi.2.1 pc = .ok (.invokeinterface idx count, 5)) (ha : xAt g A a (.inr (ci, fs))) (hci : xcl[ci]? = some q) (hc : xC g mj d1 (.ref a :: av) A (xRet (some v) A1)) (h0 : st0 = av.reverse ++ .ref a :: st) (k : xW g mi d (pc + 5) L (v :: st) A1 Q) (hsl : (lg_sl (.ref a :: av)).length ≤ mj.2.2.1 := by exact Nat.le_of_ble_eq_true rfl) (hn : av.length = n := by rfl) (hdd : d1 + 1 ≤ d := by exact Nat.le_of_ble_eq_true rfl) (hst : xrs st := by exact Nat.le_of_ble_eq_true rfl) : xW g mi d pc L st0 A Q :=
  x_cf hw hd ha hci hc hsl hn hdd hst h0 (fun o A2 h => by obtain ⟨rfl, rfl⟩ := h; exact k)
theorem x_cfN {a ci count : Nat} {fs : List Value} {q : vw_C} (hw : xCF mi.1.cls idx q.1 mj n) (hd : decode mi.2.1 pc = .ok (.invokeinterface idx count, 5)) (ha : xAt g A a (.inr (ci, fs))) (hci : xcl[ci]? = some q) (hc : xC g mj d1 (.ref a :: av) A (xRet none A1)) (h0 : st0 = av.reverse ++ .ref a :: st) (k : xW g mi d (pc + 5) L (st) A1 Q) (hsl : (lg_sl (.ref a :: av)).length ≤ mj.2.2.1 := by exact Nat.le_of_ble_eq_true rfl) (hn : av.length = n := by rfl) (hdd : d1 + 1 ≤ d := by exact Nat.le_of_ble_eq_true rfl) (hst : xrs st := by exact Nat.le_of_ble_eq_true rfl) : xW g mi d pc L st0 A Q :=
  x_cf hw hd ha hci hc hsl hn hdd hst h0 (fun o A2 h => by obtain ⟨rfl, rfl⟩ := h; exact k)
theorem v_ciE {a : Nat} (hw : xCI mi.1.cls idx mj n) (hd : decode mi.2.1 pc = .ok (.invokespecial idx, 3))  (hc : xC g mj d1 (.ref a :: av) A (xRs P)) (h0 : st0 = av.reverse ++ .ref a :: st) (k : ∀ v A1, P v A1 → xW g mi d (pc + 3) L (v.toList ++ st) A1 Q) (hsl : (lg_sl (.ref a :: av)).length ≤ mj.2.2.1 := by exact Nat.le_of_ble_eq_true rfl) (hn : av.length = n := by rfl) (hdd : d1 + 1 ≤ d := by exact Nat.le_of_ble_eq_true rfl) (hst : xrs st := by exact Nat.le_of_ble_eq_true rfl) : xW g mi d pc L st0 A Q :=
  x_ci hw hd hc hsl hn hdd hst h0 (fun o A2 h => by obtain ⟨v, rfl, h⟩ := h; exact k v A2 h)
theorem v_ciT {a : Nat} (hw : xCI mi.1.cls idx mj n) (hd : decode mi.2.1 pc = .ok (.invokespecial idx, 3))  (hc : xC g mj d1 (.ref a :: av) A (xTs PT)) (h0 : st0 = av.reverse ++ .ref a :: st) (k : ∀ q A1, PT q A1 → xX g mi d pc L q A1 Q) (hsl : (lg_sl (.ref a :: av)).length ≤ mj.2.2.1 := by exact Nat.le_of_ble_eq_true rfl) (hn : av.length = n := by rfl) (hdd : d1 + 1 ≤ d := by exact Nat.le_of_ble_eq_true rfl) (hst : xrs st := by exact Nat.le_of_ble_eq_true rfl) : xW g mi d pc L st0 A Q :=
  x_ci hw hd hc hsl hn hdd hst h0 (fun o A2 h => by obtain ⟨v, rfl, h⟩ := h; exact k v A2 h)
theorem v_cuE {a ci : Nat} {fs : List Value} {q : vw_C} (hw : xCU mi.1.cls idx mj n) (hd : decode mi.2.1 pc = .ok (.invokespecial idx, 3)) (ha : xAt g A a (.inr (ci, fs))) (hci : xcl[ci]? = some q) (hc : xC g mj d1 (.ref a :: av) A (xRs P)) (h0 : st0 = av.reverse ++ .ref a :: st) (k : ∀ v A1, P v A1 → xW g mi d (pc + 3) L (v.toList ++ st) A1 Q) (hsl : (lg_sl (.ref a :: av)).length ≤ mj.2.2.1 := by exact Nat.le_of_ble_eq_true rfl) (hn : av.length = n := by rfl) (hdd : d1 + 1 ≤ d := by exact Nat.le_of_ble_eq_true rfl) (hst : xrs st := by exact Nat.le_of_ble_eq_true rfl) : xW g mi d pc L st0 A Q :=
  x_cu hw hd ha hci hc hsl hn hdd hst h0 (fun o A2 h => by obtain ⟨v, rfl, h⟩ := h; exact k v A2 h)
theorem v_cuT {a ci : Nat} {fs : List Value} {q : vw_C} (hw : xCU mi.1.cls idx mj n) (hd : decode mi.2.1 pc = .ok (.invokespecial idx, 3)) (ha : xAt g A a (.inr (ci, fs))) (hci : xcl[ci]? = some q) (hc : xC g mj d1 (.ref a :: av) A (xTs PT)) (h0 : st0 = av.reverse ++ .ref a :: st) (k : ∀ q A1, PT q A1 → xX g mi d pc L q A1 Q) (hsl : (lg_sl (.ref a :: av)).length ≤ mj.2.2.1 := by exact Nat.le_of_ble_eq_true rfl) (hn : av.length = n := by rfl) (hdd : d1 + 1 ≤ d := by exact Nat.le_of_ble_eq_true rfl) (hst : xrs st := by exact Nat.le_of_ble_eq_true rfl) : xW g mi d pc L st0 A Q :=
  x_cu hw hd ha hci hc hsl hn hdd hst h0 (fun o A2 h => by obtain ⟨v, rfl, h⟩ := h; exact k v A2 h)
theorem x_cuV {a ci : Nat} {fs : List Value} {q : vw_C} (hw : xCU mi.1.cls idx mj n) (hd : decode mi.2.1 pc = .ok (.invokespecial idx, 3)) (ha : xAt g A a (.inr (ci, fs))) (hci : xcl[ci]? = some q) (hc : xC g mj d1 (.ref a :: av) A (xRet (some v) A1)) (h0 : st0 = av.reverse ++ .ref a :: st) (k : xW g mi d (pc + 3) L (v :: st) A1 Q) (hsl : (lg_sl (.ref a :: av)).length ≤ mj.2.2.1 := by exact Nat.le_of_ble_eq_true rfl) (hn : av.length = n := by rfl) (hdd : d1 + 1 ≤ d := by exact Nat.le_of_ble_eq_true rfl) (hst : xrs st := by exact Nat.le_of_ble_eq_true rfl) : xW g mi d pc L st0 A Q :=
  x_cu hw hd ha hci hc hsl hn hdd hst h0 (fun o A2 h => by obtain ⟨rfl, rfl⟩ := h; exact k)
theorem x_cuN {a ci : Nat} {fs : List Value} {q : vw_C} (hw : xCU mi.1.cls idx mj n) (hd : decode mi.2.1 pc = .ok (.invokespecial idx, 3)) (ha : xAt g A a (.inr (ci, fs))) (hci : xcl[ci]? = some q) (hc : xC g mj d1 (.ref a :: av) A (xRet none A1)) (h0 : st0 = av.reverse ++ .ref a :: st) (k : xW g mi d (pc + 3) L (st) A1 Q) (hsl : (lg_sl (.ref a :: av)).length ≤ mj.2.2.1 := by exact Nat.le_of_ble_eq_true rfl) (hn : av.length = n := by rfl) (hdd : d1 + 1 ≤ d := by exact Nat.le_of_ble_eq_true rfl) (hst : xrs st := by exact Nat.le_of_ble_eq_true rfl) : xW g mi d pc L st0 A Q :=
  x_cu hw hd ha hci hc hsl hn hdd hst h0 (fun o A2 h => by obtain ⟨rfl, rfl⟩ := h; exact k)
/-- thrown and not caught here -/
theorem v_out {k : Nat} {q : Nat} (hT : ∃ fs, A1.1 q = some (.inr (k, fs))) (hck : ∃ r, xcl[k]? = some r) (hout : (tableOf mi.2.2.2.2).all (fun x => !covers x pc) = true) (h : Q (.threw q) A1) : xX g mi d pc L q A1 Q := by
  obtain ⟨fs, hq⟩ := hT
  exact x_out hq hck hout h
theorem xThr_Ts {k : Nat} {mk : xM} {d0 : Nat} (h : xC g mk d0 av A (xThr k A)) : xC g mk d0 av A (xTs fun q A' => q = A.2.1 ∧ A' = xal A (.inr (k, [])) 6) := xW.imp h (fun o A' h => ⟨_, h.1, rfl, h.2⟩)
end XHC

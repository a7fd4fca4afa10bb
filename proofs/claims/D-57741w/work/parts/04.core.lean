/-! THE ABSTRACT MACHINE over the kit: a heap as a function of addresses, a run as 'it comes to o, A2'; each row is one of the kit's -/
abbrev xE : Type := (Nat × vp_A) ⊕ (Nat × List Value)
abbrev xA : Type := (Nat → Option xE) × Nat × Nat
abbrev xM : Type := MethodName × ByteArray × Nat × Option FieldType × List (Nat × Nat × Nat × Nat)
abbrev xG : Type := Launch × va_G × (Nat → ClassId) × Nat × (Nat → xE → Prop) × (String → String → String → Value → Prop) × (String → Nat → Nat → Prop) × (String → Nat → Prop)
def xD (g : xG) : va_G := g.2.1
def xaC (g : xG) : Nat → ClassId := g.2.2.1
def xbase (g : xG) : Nat := g.2.2.2.1
def xcw (g : xG) : Nat → xE → Prop := g.2.2.2.2.1
def xsv (g : xG) : String → String → String → Value → Prop := g.2.2.2.2.2.1
def xsr (g : xG) : String → Nat → Nat → Prop := g.2.2.2.2.2.2.1
def xmi (g : xG) : String → Nat → Prop := g.2.2.2.2.2.2.2
def xtys (g : xG) : List (ClassId × FieldType) := [(xaC g 0, .int), (xaC g 1, .byte), (xaC g 2, .boolean), (xaC g 3, .long), (xaC g 4, .char), (xaC g 5, .object "java/lang/Object"), (xaC g 6, .object "java/util/HashMap$Node")]
def xv (g : xG) (e : xE) : va_E := match e with
  | .inl a => .inl (xaC g a.1, a.2)
  | .inr o => .inr o
def xup (A : xA) (a : Nat) (e : xE) : xA := (va_up A.1 a (some e), A.2)
def xal (A : xA) (e : xE) (n : Nat) : xA := (va_up A.1 A.2.1 (some e), A.2.1 + 1, A.2.2 + n)
def xRep (g : xG) (A : xA) (H : Heap) : Prop := ∀ (a : Nat) (e : xE), A.1 a = some e → va_at (xD g) xcl (a, xv g e) H
def xAt (g : xG) (A : xA) (a : Nat) (e : xE) : Prop := A.1 a = some e ∨ xcw g a e
/-- words of the tables that ride along -/
def xmv (w : Cond) : Bool := match w with
  | .fieldLinkNest _ _ _ _ _ _ => true
  | .methodLinkNest _ _ _ _ => true
  | .castable _ _ => true
  | .declares _ => true
  | .arrayOver (.object _) => true
  | w => goodWord w
theorem xmv_move {w : Cond} (h : xmv w = true) {U V : State} (hW : U.WarmedH V.vm) (hw : ∀ args : Array Value, w.before args U = true) : ∀ args : Array Value, w.before args V = true := by
  intro args
  have good : goodWord w = true → w.before args V = true := fun hg => word_at hW (good_of_word hg) (hw args)
  cases w with
  | fieldLinkNest a b c d e f => exact va_Nw.use rfl (va_Nw.warmF hW (va_Nw.of rfl (hw #[])))
  | methodLinkNest a b c d => exact va_Nw.use rfl (va_Nw.warmM hW (va_Nw.of rfl (hw #[])))
  | castable a b => exact va_Nw.use rfl (va_Nw.warmC hW (va_Nw.of rfl (hw #[])))
  | declares a => exact va_Nw.use rfl (va_Nw.warmD hW (va_Nw.of rfl (hw #[])))
  | arrayOver t =>
    cases t with
    | object C => exact va_AO.use (va_AO.moved hW.alike (va_AO.of (hw #[])))
    | _ => exact good h
  | _ => exact good h
/-- the world that nothing changes: words, classes, constants, statics -/
def xSW (g : xG) (U : State) (H : Heap) : Prop :=
  xbase g ≤ H.size ∧
  (∀ w ∈ lw_tbl, xmv w = true → ∀ args : Array Value, w.before args U = true) ∧
  (∀ q ∈ xifs, va_Fw q.1 q.2.1 q.2.2 U) ∧
  (∀ q ∈ xncs, va_Nc q.1 q.2 U) ∧
  va_K (xD g) xcl (xtys g) U ∧
  (∀ (a : Nat) (e : xE), xcw g a e → a < xbase g ∧ va_at (xD g) xcl (a, xv g e) H) ∧
  (∀ (C n d : String) (v : Value), xsv g C n d v → va_Z C n d v (fun q => xbase g ≤ q) U H) ∧
  (∀ (own : String) (k a : Nat), xsr g own k a → ∃ tx : String, vk_R own k tx a U) ∧
  (∀ (C : String) (a : Nat), xmi g C a → va_Mi C a U) ∧
  vx_Zq Bundle.tN "UNASSIGNED_STACK" Bundle.steD (fun q => xbase g ≤ q) U H ∧
  vx_Zq Bundle.tN "SUPPRESSED_SENTINEL" Bundle.listD (fun q => xbase g ≤ q) U H ∧
  ArrOfT U (xaC g 7) (.object "java/lang/Integer")
theorem xSW.move {g : xG} {U V : State} {H H1 : Heap} (h : xSW g U H) (hW : U.WarmedH V.vm) (hs : xbase g ≤ H1.size) (hq : ∀ q : Nat, q < xbase g → H1[q]? = H[q]?) : xSW g V H1 := by
  obtain ⟨h1, h2, h3, h4, h5, h6, h7, h8, h9, h10, h11, h12⟩ := h
  have hk : ∀ a : Nat, a < H.size → ¬ (fun q => xbase g ≤ q) a → H1[a]? = H[a]? := fun a _ hn => hq a (Nat.lt_of_not_le hn)
  refine ⟨hs, fun w hw hm => xmv_move hm hW (h2 w hw hm), fun q hq => (h3 q hq).moved (xifs_ok q hq) hW.alike, fun q hq => (h4 q hq).moved hW.alike, va_K.moved hW.alike h5, fun a e he => ⟨(h6 a e he).1, (h6 a e he).2.kept (hq a (h6 a e he).1)⟩, fun C n d v hv => ((h7 C n d v hv).moved hW.alike).kept hk, fun own k a hr => ?_, fun C a hm => (h9 C a hm).moved hW.alike, (h10.moved hW.alike).kept hk, (h11.moved hW.alike).kept hk, arrOfT_moved hW.alike h12⟩
  obtain ⟨tx, ht⟩ := h8 own k a hr
  exact ⟨tx, vk_R.warm hW ht⟩
theorem xSW.heap {g : xG} {U : State} {H H1 : Heap} (h : xSW g U H) (hs : xbase g ≤ H1.size) (hq : ∀ q : Nat, q < xbase g → H1[q]? = H[q]?) : xSW g U H1 := h.move (State.WarmedH.refl U) hs hq
theorem xSW.word {g : xG} {U : State} {H : Heap} (h : xSW g U H) {w : Cond} (hw : w ∈ lw_tbl) (hm : xmv w = true) {args : Array Value} : w.before args U = true := h.2.1 w hw hm args
theorem xmv_good {w : Cond} (h : goodWord w = true) : xmv w = true := by
  cases w with
  | arrayOver t => cases t <;> first | rfl | exact h
  | _ => first | rfl | exact h
theorem xSW.hts {g : xG} {U : State} {H : Heap} (h : xSW g U H) {args : Array Value} : ∀ w ∈ lw_all, w.before args U = true := fun w hw => h.2.1 w (List.mem_filter.mp hw).1 (xmv_good (List.mem_filter.mp hw).2) args
def xOk (g : xG) (A : xA) : Prop := xbase g ≤ A.2.1 ∧ ∀ (a : Nat) (e : xE), A.1 a = some e → xbase g ≤ a ∧ a < A.2.1
theorem xup_self {A : xA} {a : Nat} {e : xE} : (xup A a e).1 a = some e := va_up_self _ _ _
theorem xup_ne {A : xA} {a b : Nat} {e : xE} (h : b ≠ a) : (xup A a e).1 b = A.1 b := va_up_ne _ _ h
theorem xup_2 {A : xA} {a : Nat} {e : xE} : (xup A a e).2 = A.2 := rfl
theorem xal_self {A : xA} {e : xE} {n : Nat} : (xal A e n).1 A.2.1 = some e := va_up_self _ _ _
theorem xal_ne {A : xA} {b : Nat} {e : xE} {n : Nat} (h : b ≠ A.2.1) : (xal A e n).1 b = A.1 b := va_up_ne _ _ h
theorem xOk.up {g : xG} {A : xA} {a : Nat} {e0 e : xE} (h : xOk g A) (ha : A.1 a = some e0) : xOk g (xup A a e) := by
  refine ⟨h.1, fun b e1 hb => ?_⟩
  by_cases hba : b = a
  · rw [hba]; exact h.2 a e0 ha
  · rw [xup_ne hba] at hb; exact h.2 b e1 hb
theorem xOk.al {g : xG} {A : xA} {e : xE} {n : Nat} (h : xOk g A) : xOk g (xal A e n) := by
  refine ⟨Nat.le_succ_of_le h.1, fun b e1 hb => ?_⟩
  by_cases hba : b = A.2.1
  · rw [hba]; exact ⟨h.1, Nat.lt_succ_self _⟩
  · rw [xal_ne hba] at hb; exact ⟨(h.2 b e1 hb).1, Nat.lt_succ_of_lt (h.2 b e1 hb).2⟩
theorem xOk.new {g : xG} {A : xA} (h : xOk g A) : A.1 A.2.1 = none := by
  cases hn : A.1 A.2.1 with
  | none => rfl
  | some e => exact absurd (h.2 _ _ hn).2 (Nat.lt_irrefl _)
theorem xRep.up {g : xG} {A : xA} {H H1 : Heap} {a : Nat} {e : xE} (hr : xRep g A H) (he : va_at (xD g) xcl (a, xv g e) H1) (ho : ∀ q : Nat, q ≠ a → H1[q]? = H[q]?) : xRep g (xup A a e) H1 := by
  intro b e1 hb
  by_cases hba : b = a
  · subst hba
    rw [xup_self] at hb
    cases hb
    exact he
  · rw [xup_ne hba] at hb
    exact (hr b e1 hb).kept (ho b hba)
theorem xRep.al {g : xG} {A : xA} {H H1 : Heap} {e : xE} {n : Nat} (hr : xRep g A H) (hz : H.size = A.2.1) (he : va_at (xD g) xcl (A.2.1, xv g e) H1) (ho : ∀ q : Nat, q < H.size → H1[q]? = H[q]?) : xRep g (xal A e n) H1 := by
  intro b e1 hb
  by_cases hba : b = A.2.1
  · subst hba
    rw [xal_self] at hb
    cases hb
    exact he
  · rw [xal_ne hba] at hb
    exact (hr b e1 hb).kept (ho b (hr b e1 hb).lt)
theorem xAt.at {g : xG} {A : xA} {U : State} {H : Heap} {a : Nat} {e : xE} (h : xAt g A a e) (hs : xSW g U H) (hr : xRep g A H) : va_P (xD g) xcl [(a, xv g e)] H := by
  have h1 : va_at (xD g) xcl (a, xv g e) H := h.elim (hr a e) (fun hc => (hs.2.2.2.2.2.1 a e hc).2)
  intro k q hk
  have hz : k < 1 := (List.getElem?_eq_some_iff.mp hk).1
  rw [show k = 0 by omega] at hk
  cases hk
  exact h1
/-! locals -/
def xloc (ls : Array Slot) (nL : Nat) (L : List (Option Value)) : Prop := ls.size = nL ∧ lv_wf ls ∧ ∀ (i : Nat) (v : Value), L[i]? = some (some v) → ls[i]? = some (.val v)
def xprs (L : List (Option Value)) : List (Nat × Value) := (List.range L.length).filterMap fun k => (L[k]?.bind id).map fun v => (k, v)
theorem xprs_mem {L : List (Option Value)} {k : Nat} {v : Value} : (k, v) ∈ xprs L ↔ L[k]? = some (some v) := by
  unfold xprs
  rw [List.mem_filterMap]
  constructor
  · rintro ⟨j, -, hj⟩
    cases hL : L[j]? with
    | none => rw [hL] at hj; simp at hj
    | some o =>
      rw [hL] at hj
      cases o with
      | none => simp at hj
      | some w =>
        simp at hj
        obtain ⟨rfl, rfl⟩ := hj
        exact hL
  · intro h
    exact ⟨k, List.mem_range.mpr (List.getElem?_eq_some_iff.mp h).1, by rw [h]; rfl⟩
theorem xloc.has {ls : Array Slot} {nL : Nat} {L : List (Option Value)} (h : xloc ls nL L) : lv_has ls nL (xprs L) := ⟨h.1, h.2.1, fun q hq => h.2.2 q.1 q.2 (xprs_mem.mp hq)⟩
theorem xloc.get {ls : Array Slot} {nL : Nat} {L : List (Option Value)} (h : xloc ls nL L) {i : Nat} {v : Value} (hi : L[i]? = some (some v)) : ls[i]? = some (.val v) := h.2.2 i v hi
/-- the value ahead of place i is no long and no double -/
def xc2 (L : List (Option Value)) (i : Nat) : Bool := match i with
  | 0 => false
  | j + 1 => match L[j]? with
    | some (some (.long _)) => true
    | some (some (.double _)) => true
    | _ => false
theorem xc2_cat {L : List (Option Value)} {j : Nat} {v : Value} (h : xc2 L (j + 1) = false) (hv : L[j]? = some (some v)) : ¬ v.category = 2 := by
  intro hc
  simp only [xc2, hv] at h
  cases v <;> simp [Value.category] at hc <;> simp at h
theorem xloc.of1 {ls : Array Slot} {nL : Nat} {L : List (Option Value)} {i : Nat} {v : Value} (h2 : xc2 L i = false) (h : lv_has ls nL ((i, v) :: (xprs L).filter (fun q => !(q.1 == i) && !(q.1 + 1 == i && q.2.category == 2)))) : xloc ls nL (L.set i (some v)) := by
  refine ⟨h.1, h.2.1, fun j w hj => ?_⟩
  by_cases hji : j = i
  · subst hji
    have hl : j < L.length := by
      have := (List.getElem?_eq_some_iff.mp hj).1
      simpa using this
    rw [List.getElem?_set_self hl] at hj
    cases hj
    exact h.2.2 (j, v) List.mem_cons_self
  · rw [List.getElem?_set_ne (Ne.symm hji)] at hj
    refine h.2.2 (j, w) (List.mem_cons_of_mem _ (List.mem_filter.mpr ⟨xprs_mem.mpr hj, ?_⟩))
    have h1 : (j == i) = false := by simpa using hji
    by_cases hn : j + 1 = i
    · subst hn
      have h3 := xc2_cat h2 hj
      have h4 : (w.category == 2) = false := by simpa using h3
      simp [h4]
    · have h3 : (j + 1 == i) = false := by simpa using hn
      simp [h1, h3]
theorem xloc.of2 {ls : Array Slot} {nL : Nat} {L : List (Option Value)} {i : Nat} {v : Value} (h2 : xc2 L i = false) (h : lv_has ls nL ((i, v) :: (xprs L).filter (fun q => !(q.1 == i) && (!(q.1 == i + 1) && !(q.1 + 1 == i && q.2.category == 2))))) : xloc ls nL ((L.set i (some v)).set (i + 1) none) := by
  refine ⟨h.1, h.2.1, fun j w hj => ?_⟩
  by_cases hj1 : j = i + 1
  · subst hj1
    have hl : i + 1 < (L.set i (some v)).length := by
      have := (List.getElem?_eq_some_iff.mp hj).1
      simpa using this
    rw [List.getElem?_set_self hl] at hj
    cases hj
  · rw [List.getElem?_set_ne (Ne.symm hj1)] at hj
    by_cases hji : j = i
    · subst hji
      have hl : j < L.length := by
        have := (List.getElem?_eq_some_iff.mp hj).1
        simpa using this
      rw [List.getElem?_set_self hl] at hj
      cases hj
      exact h.2.2 (j, v) List.mem_cons_self
    · rw [List.getElem?_set_ne (Ne.symm hji)] at hj
      refine h.2.2 (j, w) (List.mem_cons_of_mem _ (List.mem_filter.mpr ⟨xprs_mem.mpr hj, ?_⟩))
      have h1 : (j == i) = false := by simpa using hji
      have h0 : (j == i + 1) = false := by simpa using hj1
      by_cases hn : j + 1 = i
      · subst hn
        have h3 := xc2_cat h2 hj
        have h4 : (w.category == 2) = false := by simpa using h3
        simp [h4]
        omega
      · have h3 : (j + 1 == i) = false := by simpa using hn
        simp [h1, h0, h3]
/-- less known of the locals -/
def xle : List (Option Value) → List (Option Value) → Prop
  | [], _ => True
  | none :: l, k => xle l k.tail
  | some v :: l, k => k.head? = some (some v) ∧ xle l k.tail
theorem xle_get : ∀ {l k : List (Option Value)}, xle l k → ∀ {i : Nat} {v : Value}, l[i]? = some (some v) → k[i]? = some (some v)
  | [], _, _, i, v, h => by simp at h
  | none :: l, k, hx, i, v, h => by
    cases i with
    | zero => simp at h
    | succ i =>
      have h1 := xle_get (l := l) (k := k.tail) hx (i := i) (v := v) (by simpa using h)
      cases k with
      | nil => simp at h1
      | cons a k => simpa using h1
  | some w :: l, k, hx, i, v, h => by
    cases k with
    | nil => simp [xle] at hx
    | cons a k =>
      cases i with
      | zero =>
        have h2 := hx.1
        simp at h h2
        subst h; subst h2
        rfl
      | succ i =>
        have h1 := xle_get (l := l) (k := k) hx.2 (i := i) (v := v) (by simpa using h)
        simpa using h1
theorem xloc.sub {ls : Array Slot} {nL : Nat} {L L' : List (Option Value)} (h : xloc ls nL L) (hx : xle L' L) : xloc ls nL L' := ⟨h.1, h.2.1, fun i v hi => h.2.2 i v (xle_get hx hi)⟩
/-- the locals with which a method begins -/
def xent : List Value → List (Option Value)
  | [] => []
  | v :: vs => if v.category = 2 then some v :: none :: xent vs else some v :: xent vs
theorem xent_args : ∀ (vs : List Value) (o : Nat) (i : Nat) (v : Value), (xent vs)[i]? = some (some v) → (o + i, v) ∈ lv_args o vs
  | [], o, i, v, h => by simp [xent] at h
  | w :: vs, o, i, v, h => by
    unfold lv_args
    unfold xent at h
    by_cases hc : w.category = 2
    · rw [if_pos hc] at h ⊢
      match i, h with
      | 0, h => simp at h; subst h; exact List.mem_cons_self
      | 1, h => simp at h
      | i + 2, h =>
        have h1 := xent_args vs (o + 2) i v (by simpa using h)
        rw [show o + (i + 2) = o + 2 + i by omega]
        exact List.mem_cons_of_mem _ h1
    · rw [if_neg hc] at h ⊢
      match i, h with
      | 0, h => simp at h; subst h; exact List.mem_cons_self
      | i + 1, h =>
        have h1 := xent_args vs (o + 1) i v (by simpa using h)
        rw [show o + (i + 1) = o + 1 + i by omega]
        exact List.mem_cons_of_mem _ h1
def xpad (n : Nat) (l : List (Option Value)) : List (Option Value) := l ++ List.replicate (n - l.length) none
theorem xpad_get {n : Nat} {l : List (Option Value)} {i : Nat} {v : Value} (h : (xpad n l)[i]? = some (some v)) : l[i]? = some (some v) := by
  unfold xpad at h
  by_cases hi : i < l.length
  · rwa [List.getElem?_append_left hi] at h
  · rw [List.getElem?_append_right (by omega)] at h
    have := List.mem_of_getElem? h
    rw [List.mem_replicate] at this
    exact absurd this.2 (by simp)
theorem xloc_entry (vs : List Value) {n : Nat} (h : (lg_sl vs).length ≤ n) : xloc ((lg_sl vs ++ List.replicate (n - (lg_sl vs).length) Slot.unset).toArray) n (xpad n (xent vs)) := by
  have h1 := lv_entry vs h
  refine ⟨h1.1, h1.2.1, fun i v hi => ?_⟩
  have h2 := xent_args vs 0 i v (xpad_get hi)
  rw [Nat.zero_add] at h2
  exact h1.2.2 (i, v) h2
/-! runs -/
def xCx (mi : xM) (p : Program) (s : State) (m : MethodId) (meth : Method) (c : Code) : Prop :=
  p.tables.exec = Jvm.exec ∧ c.code = mi.2.1 ∧ meth.sig.returnType = mi.2.2.2.1 ∧ meth.locks = false ∧ c.maxLocals = mi.2.2.1 ∧ s.vm.findClass mi.1.cls = some m.cls ∧ meth.name = mi.1.name ∧ c.exceptionTable.toList = tableOf mi.2.2.2.2
def xFin (g : xG) (o : Outcome) (A' : xA) (H0 : Heap) (below : List Frame) (s : State) (mc ms : Nat) : State → Prop := fun t =>
  t.status = .running ∧ Ended t below o ∧ xRep g A' t.heap ∧ t.heap.size = A'.2.1 ∧ (∀ q : Nat, q < xbase g → t.heap[q]? = H0[q]?) ∧ s.WarmedH t.vm ∧
    ∃ Lo : List Loc, (∀ q ∈ Lo, xbase g ≤ q.base) ∧ s.sameButNew ({ t with vm := s.vm } : State) Lo mc ms
def xOut (o : Outcome) (A' : xA) : Prop := (∃ v, o = .returned v) ∨ ∃ (q k : Nat) (fs : List Value), o = .threw q ∧ A'.1 q = some (.inr (k, fs))
def xGo (g : xG) (mi : xM) (d pc : Nat) (L : List (Option Value)) (st : List Value) (A : xA) (o : Outcome) (A' : xA) : Prop :=
  ∀ (p : Program) (e : Env) (R : Room) (s : State) (m : MethodId) (args : Array Value) (below : List Frame) (meth : Method) (c : Code) (H : Heap) (locs : List Loc) (cells slots : Nat) (ls : Array Slot),
    xCx mi p s m meth c → xSW g s H → xRep g A H → H.size = A.2.1 → xloc ls mi.2.2.1 L → (∀ q ∈ locs, xbase g ≤ q.base) → cells + (A'.2.1 - A.2.1) ≤ R.cells → slots + (A'.2.2 - A.2.2) ≤ R.slots → d ≤ R.frames → 64 * d ≤ R.locals →
    W p g.1 e R s m args below meth c H locs cells slots (xFin g o A' H below s (cells + (A'.2.1 - A.2.1)) (slots + (A'.2.2 - A.2.2))) (F0 m pc ls st)
/-- from pc, locals L, operands st, heap A the method comes to an end o in a heap A2, of which Q holds -/
def xW (g : xG) (mi : xM) (d pc : Nat) (L : List (Option Value)) (st : List Value) (A : xA) (Q : Outcome → xA → Prop) : Prop :=
  xOk g A → ∃ (o : Outcome) (A' : xA), xOk g A' ∧ A.2.1 ≤ A'.2.1 ∧ A.2.2 ≤ A'.2.2 ∧ xOut o A' ∧ Q o A' ∧ xGo g mi d pc L st A o A'
/-- the same with q thrown at pc -/
def xXGo (g : xG) (mi : xM) (d pc : Nat) (L : List (Option Value)) (q : Nat) (A : xA) (o : Outcome) (A' : xA) : Prop :=
  ∀ (p : Program) (e : Env) (R : Room) (s : State) (m : MethodId) (args : Array Value) (below : List Frame) (meth : Method) (c : Code) (H : Heap) (locs : List Loc) (cells slots : Nat) (ls : Array Slot) (rest : List Value),
    xCx mi p s m meth c → xSW g s H → xRep g A H → H.size = A.2.1 → xloc ls mi.2.2.1 L → (∀ q ∈ locs, xbase g ≤ q.base) → cells + (A'.2.1 - A.2.1) ≤ R.cells → slots + (A'.2.2 - A.2.2) ≤ R.slots → d ≤ R.frames → 64 * d ≤ R.locals →
    vx_W p g.1 e R s m args below meth c H locs cells slots (xFin g o A' H below s (cells + (A'.2.1 - A.2.1)) (slots + (A'.2.2 - A.2.2))) (F0 m pc ls rest) q
def xX (g : xG) (mi : xM) (d pc : Nat) (L : List (Option Value)) (q : Nat) (A : xA) (Q : Outcome → xA → Prop) : Prop :=
  xOk g A → ∃ (o : Outcome) (A' : xA), xOk g A' ∧ A.2.1 ≤ A'.2.1 ∧ A.2.2 ≤ A'.2.2 ∧ xOut o A' ∧ Q o A' ∧ xXGo g mi d pc L q A o A'
section XK
variable {p : Program} {l : Launch} {e : Env} {R : Room} {s : State} {m : MethodId} {args : Array Value} {below : List Frame} {meth : Method} {c : Code} {H : Heap} {locs : List Loc} {cells slots : Nat}
theorem xW_mono {Q1 Q2 : State → Prop} {f : JFrame} (h : ∀ t, Q1 t → Q2 t) (k : W p l e R s m args below meth c H locs cells slots Q1 f) : W p l e R s m args below meth c H locs cells slots Q2 f := fun T hT X => by
  obtain ⟨t, a, b⟩ := k T hT X
  exact ⟨t, a, h t b⟩
theorem xvW_mono {Q1 Q2 : State → Prop} {f : JFrame} {q : Addr} (h : ∀ t, Q1 t → Q2 t) (k : vx_W p l e R s m args below meth c H locs cells slots Q1 f q) : vx_W p l e R s m args below meth c H locs cells slots Q2 f q := fun T hT X => by
  obtain ⟨t, a, b⟩ := k T hT X
  exact ⟨t, a, h t b⟩
theorem xFin.heap {g : xG} {o : Outcome} {A' : xA} {H1 : Heap} {mc ms : Nat} (h : ∀ q : Nat, q < xbase g → H1[q]? = H[q]?) (t : State) (k : xFin g o A' H1 below s mc ms t) : xFin g o A' H below s mc ms t := by
  obtain ⟨k1, k2, k3, k4, k5, k6⟩ := k
  exact ⟨k1, k2, k3, k4, fun q hq => (k5 q hq).trans (h q hq), k6⟩
end XK
section XROW
variable {g : xG} {mi : xM} {d pc : Nat} {L : List (Option Value)} {st : List Value} {A : xA} {Q : Outcome → xA → Prop}
theorem xW.imp {Q' : Outcome → xA → Prop} (k : xW g mi d pc L st A Q) (h : ∀ o A', Q o A' → Q' o A') : xW g mi d pc L st A Q' := by
  intro hok
  obtain ⟨o, A', h1, h2, h3, h4, h5, h6⟩ := k hok
  exact ⟨o, A', h1, h2, h3, h4, h _ _ h5, h6⟩
theorem xW.ok (k : xOk g A → xW g mi d pc L st A Q) : xW g mi d pc L st A Q := fun hok => k hok hok
theorem xW.eqA {A1 : xA} (h : A = A1) (k : xW g mi d pc L st A1 Q) : xW g mi d pc L st A Q := h ▸ k
theorem xW.loc {L' : List (Option Value)} (h : xle L' L) (k : xW g mi d pc L' st A Q) : xW g mi d pc L st A Q := by
  intro hok
  obtain ⟨o, A', h1, h2, h3, h4, h5, h6⟩ := k hok
  refine ⟨o, A', h1, h2, h3, h4, h5, ?_⟩
  intro p e R s m args below meth c H locs cells slots ls hC hs hr hz hl
  exact h6 p e R s m args below meth c H locs cells slots ls hC hs hr hz (hl.sub h)
theorem xW.up {d1 : Nat} (h : d1 ≤ d) (k : xW g mi d1 pc L st A Q) : xW g mi d pc L st A Q := by
  intro hok
  obtain ⟨o, A', h1, h2, h3, h4, h5, h6⟩ := k hok
  refine ⟨o, A', h1, h2, h3, h4, h5, ?_⟩
  intro p e R s m args below meth c H locs cells slots ls hC hs hr hz hl hlo hc hsl hd hd2
  exact h6 p e R s m args below meth c H locs cells slots ls hC hs hr hz hl hlo hc hsl (Nat.le_trans h hd) (Nat.le_trans (Nat.mul_le_mul_left 64 h) hd2)
/-- a row that leaves the heap -/
theorem xW.pure {pc' : Nat} {L' : List (Option Value)} {st' : List Value}
    (h : ∀ (p : Program) (e : Env) (R : Room) (s : State) (m : MethodId) (args : Array Value) (below : List Frame) (meth : Method) (c : Code) (H : Heap) (locs : List Loc) (cells slots : Nat) (ls : Array Slot) (Q9 : State → Prop),
      xCx mi p s m meth c → xSW g s H → xRep g A H → xloc ls mi.2.2.1 L → d ≤ R.frames → 64 * d ≤ R.locals →
      (∀ ls' : Array Slot, xloc ls' mi.2.2.1 L' → W p g.1 e R s m args below meth c H locs cells slots Q9 (F0 m pc' ls' st')) → W p g.1 e R s m args below meth c H locs cells slots Q9 (F0 m pc ls st))
    (k : xW g mi d pc' L' st' A Q) : xW g mi d pc L st A Q := by
  intro hok
  obtain ⟨o, A', h1, h2, h3, h4, h5, h6⟩ := k hok
  refine ⟨o, A', h1, h2, h3, h4, h5, ?_⟩
  intro p e R s m args below meth c H locs cells slots ls hC hs hr hz hl hlo hc hsl hd hd2
  exact h p e R s m args below meth c H locs cells slots ls _ hC hs hr hl hd hd2 fun ls' hl' => h6 p e R s m args below meth c H locs cells slots ls' hC hs hr hz hl' hlo hc hsl hd hd2
/-- a row that writes a cell -/
theorem xW.write {pc' : Nat} {st' : List Value} {A1 : xA} (hA : A1.2 = A.2) (hok1 : xOk g A → xOk g A1)
    (h : ∀ (p : Program) (e : Env) (R : Room) (s : State) (m : MethodId) (args : Array Value) (below : List Frame) (meth : Method) (c : Code) (H : Heap) (locs : List Loc) (cells slots : Nat) (ls : Array Slot) (Q9 : State → Prop),
      xOk g A → xCx mi p s m meth c → xSW g s H → xRep g A H → xloc ls mi.2.2.1 L → d ≤ R.frames → 64 * d ≤ R.locals →
      (∀ (H1 : Heap) (Lo : List Loc), xRep g A1 H1 → H1.size = H.size → (∀ q : Nat, q < xbase g → H1[q]? = H[q]?) → (∀ q ∈ Lo, xbase g ≤ q.base) → W p g.1 e R s m args below meth c H1 (locs ++ Lo) cells slots Q9 (F0 m pc' ls st')) → W p g.1 e R s m args below meth c H locs cells slots Q9 (F0 m pc ls st))
    (k : xW g mi d pc' L st' A1 Q) : xW g mi d pc L st A Q := by
  intro hok
  obtain ⟨o, A', h1, h2, h3, h4, h5, h6⟩ := k (hok1 hok)
  rw [hA] at h2 h3
  refine ⟨o, A', h1, h2, h3, h4, h5, ?_⟩
  intro p e R s m args below meth c H locs cells slots ls hC hs hr hz hl hlo hc hsl hd hd2
  refine h p e R s m args below meth c H locs cells slots ls _ hok hC hs hr hl hd hd2 fun H1 Lo hr1 hz1 hq1 hb1 => ?_
  have h7 := h6 p e R s m args below meth c H1 (locs ++ Lo) cells slots ls hC (hs.heap (by rw [hz1]; exact hs.1) hq1) hr1 (by rw [hz1, hz, hA]) hl (fun q hq => by
    rcases List.mem_append.mp hq with h | h
    · exact hlo q h
    · exact hb1 q h) (by rw [hA]; exact hc) (by rw [hA]; exact hsl) hd hd2
  rw [hA] at h7
  exact xW_mono (fun t ht => xFin.heap hq1 t ht) h7
theorem xW.wr {pc' a : Nat} {st' : List Value} {e0 e1 : xE} (ha : A.1 a = some e0)
    (h : ∀ (p : Program) (e : Env) (R : Room) (s : State) (m : MethodId) (args : Array Value) (below : List Frame) (meth : Method) (c : Code) (H : Heap) (locs : List Loc) (cells slots : Nat) (ls : Array Slot) (Q9 : State → Prop),
      xOk g A → xCx mi p s m meth c → xSW g s H → xRep g A H → xloc ls mi.2.2.1 L → d ≤ R.frames → 64 * d ≤ R.locals →
      (∀ (H1 : Heap) (Lo : List Loc), xRep g (xup A a e1) H1 → H1.size = H.size → (∀ q : Nat, q < xbase g → H1[q]? = H[q]?) → (∀ q ∈ Lo, xbase g ≤ q.base) → W p g.1 e R s m args below meth c H1 (locs ++ Lo) cells slots Q9 (F0 m pc' ls st')) → W p g.1 e R s m args below meth c H locs cells slots Q9 (F0 m pc ls st))
    (k : xW g mi d pc' L st' (xup A a e1) Q) : xW g mi d pc L st A Q := xW.write xup_2 (fun h => h.up ha) h k
/-- a row that makes a cell of n slots -/
theorem xW.make {pc' n : Nat} {st' : List Value} {e1 : xE}
    (h : ∀ (p : Program) (e : Env) (R : Room) (s : State) (m : MethodId) (args : Array Value) (below : List Frame) (meth : Method) (c : Code) (H : Heap) (locs : List Loc) (cells slots : Nat) (ls : Array Slot) (Q9 : State → Prop),
      xCx mi p s m meth c → xSW g s H → xRep g A H → H.size = A.2.1 → xloc ls mi.2.2.1 L → d ≤ R.frames → 64 * d ≤ R.locals → cells + 1 ≤ R.cells → slots + n ≤ R.slots →
      (∀ (H1 : Heap), va_at (xD g) xcl (A.2.1, xv g e1) H1 → H1.size = H.size + 1 → (∀ q : Nat, q < H.size → H1[q]? = H[q]?) → W p g.1 e R s m args below meth c H1 locs (cells + 1) (slots + n) Q9 (F0 m pc' ls st')) → W p g.1 e R s m args below meth c H locs cells slots Q9 (F0 m pc ls st))
    (k : xW g mi d pc' L st' (xal A e1 n) Q) : xW g mi d pc L st A Q := by
  intro hok
  obtain ⟨o, A', h1, h2, h3, h4, h5, h6⟩ := k hok.al
  have h2 : A.2.1 + 1 ≤ A'.2.1 := h2
  have h3 : A.2.2 + n ≤ A'.2.2 := h3
  refine ⟨o, A', h1, by omega, by omega, h4, h5, ?_⟩
  intro p e R s m args below meth c H locs cells slots ls hC hs hr hz hl hlo hc hsl hd hd2
  refine h p e R s m args below meth c H locs cells slots ls _ hC hs hr hz hl hd hd2 (by omega) (by omega) fun H1 he1 hz1 hq1 => ?_
  have hqb : ∀ q : Nat, q < xbase g → H1[q]? = H[q]? := fun q hq => hq1 q (Nat.lt_of_lt_of_le hq hs.1)
  have h7 := h6 p e R s m args below meth c H1 locs (cells + 1) (slots + n) ls hC (hs.heap (by have := hs.1; omega) hqb) (hr.al hz he1 hq1) (by show H1.size = A.2.1 + 1; rw [hz1, hz]) hl hlo (by show cells + 1 + (A'.2.1 - (A.2.1 + 1)) ≤ _; omega) (by show slots + n + (A'.2.2 - (A.2.2 + n)) ≤ _; omega) hd hd2
  rw [show cells + 1 + (A'.2.1 - (xal A e1 n).2.1) = cells + (A'.2.1 - A.2.1) from by show cells + 1 + (A'.2.1 - (A.2.1 + 1)) = _; omega, show slots + n + (A'.2.2 - (xal A e1 n).2.2) = slots + (A'.2.2 - A.2.2) from by show slots + n + (A'.2.2 - (A.2.2 + n)) = _; omega] at h7
  exact xW_mono (fun t ht => xFin.heap hqb t ht) h7
end XROW

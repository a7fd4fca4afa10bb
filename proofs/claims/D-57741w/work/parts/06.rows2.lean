section XR2
/-! what a field's site is: own class and entry; the class number k, the field's number j -/
def xSameF (T : u_T) (j : Nat) (ref : String) : Prop := ref = (T j).1 ∨ Cond.sameField ref (T j).1 (T j).2.1 (T j).2.2.1 ∈ lw_all
def xLinkF (own : String) (idx : Nat) (T : u_T) (j : Nat) (ref : String) : Prop := Cond.fieldLink own idx ref (T j).2.1 (T j).2.2.1 ∈ lw_all ∨ ∃ host : String, Cond.fieldLinkNest own idx ref (T j).2.1 (T j).2.2.1 host ∈ lw_tbl
def xFL (own : String) (idx k j : Nat) : Prop := ∃ (C : String) (T : u_T) (N : Nat) (ref : String), xcl[k]? = some (C, T, N) ∧ j < N ∧ (∀ w ∈ u_ws C T N, w ∈ lw_all) ∧ xSameF T j ref ∧ xLinkF own idx T j ref
/-- a class of the list: its words, types, names -/
def xFT (k : Nat) (C : String) (T : u_T) (N : Nat) (ty0 : Nat → FieldType) : Prop := xcl[k]? = some (C, T, N) ∧ (∀ w ∈ u_ws C T N, w ∈ lw_all) ∧ (∀ i, i < N → parseFieldDescriptor (T i).2.2.1 = some (ty0 i)) ∧ (∀ a, a < N → ∀ b, b < N → a ≠ b → (T a).2.1 ≠ (T b).2.1)
def xFP (own : String) (idx k j : Nat) (ty : FieldType) : Prop := ∃ (C : String) (T : u_T) (N : Nat) (ref : String) (ty0 : Nat → FieldType), xFT k C T N ty0 ∧ j < N ∧ ty0 j = ty ∧ (T j).2.2.2 = false ∧ xSameF T j ref ∧ xLinkF own idx T j ref
def xFF (own : String) (idx k j : Nat) (ty : FieldType) : Prop := ∃ (C : String) (T : u_T) (N : Nat) (ref : String) (ty0 : Nat → FieldType), xFT k C T N ty0 ∧ j < N ∧ ty0 j = ty ∧ (T j).2.2.2 = true ∧ (T j).1 = own ∧ xSameF T j ref ∧ Cond.fieldLink own idx ref (T j).2.1 (T j).2.2.1 ∈ lw_all
def xfit (ty : FieldType) (v : Value) : Prop := narrow ty v = v ∧ fits ty v = true
variable {g : xG} {mi : xM} {d pc : Nat} {L : List (Option Value)} {st : List Value} {A : xA} {Q : Outcome → xA → Prop}
theorem xSW.K {U : State} {H : Heap} (h : xSW g U H) : va_K (xD g) xcl (xtys g) U := h.2.2.2.2.1
theorem xSameF.use {T : u_T} {j : Nat} {ref : String} (h : xSameF T j ref) {s : State} {H : Heap} (hs : xSW g s H) : ∀ x, s.fieldFound? (T j).1 (T j).2.1 (T j).2.2.1 = some x → s.fieldFound? ref (T j).2.1 (T j).2.2.1 = some x := by
  rcases h with h | h
  · intro x hx; rw [h]; exact hx
  · exact u_same (hs.hts (args := #[]) _ h)
theorem x_get {k j idx a : Nat} {fs : List Value} {v : Value} (hF : xFL mi.1.cls idx k j) (hd : decode mi.2.1 pc = .ok (.getfield idx, 3)) (ha : xAt g A a (.inr (k, fs))) (hv : fs[j]? = some v) (kq : xW g mi d (pc + 3) L (v :: st) A Q) : xW g mi d pc L (.ref a :: st) A Q := by
  obtain ⟨C, T, N, ref, hc, hj, hin, hsame, hlk⟩ := hF
  refine xW.pure ?_ kq
  intro p e R s m args below meth c H locs cells slots ls Q9 hC hs hr hl hd1 hd2 kk
  rcases hlk with h | ⟨host, h⟩
  · exact va_get (args := args) (Ts := lw_all) hC.1 hC.2.1 hs.hts hin hC.2.2.2.2.2.1 hs.K (ha.at hs hr) 0 rfl hc j hj (hs.hts _ h) (hsame.use hs) hv hd (kk ls hl)
  · exact va_getN (args := args) (Ts := lw_all) hC.1 hC.2.1 hs.hts hin hC.2.2.2.2.2.1 hs.K (ha.at hs hr) 0 rfl hc j hj (hs.word h rfl) (hsame.use hs) hv hd (kk ls hl)
theorem x_put {k j idx a : Nat} {fs : List Value} {v : Value} {ty : FieldType} (hF : xFP mi.1.cls idx k j ty) (hd : decode mi.2.1 pc = .ok (.putfield idx, 3)) (ha : A.1 a = some (.inr (k, fs))) (hv : xfit ty v) (hjl : j < fs.length) (kq : xW g mi d (pc + 3) L st (xup A a (.inr (k, fs.set j v))) Q) : xW g mi d pc L (v :: .ref a :: st) A Q := by
  obtain ⟨C, T, N, ref, ty0, ⟨hc, hin, hty, hnm⟩, hj, rfl, hfin, hsame, hlk⟩ := hF
  refine xW.wr ha ?_ kq
  intro p e R s m args below meth c H locs cells slots ls Q9 hok hC hs hr hl hd1 hd2 kk
  have hba := (hok.2 a _ ha).1
  have hap := va_apart (own := mi.1.cls) (args := args) (Ts := lw_all) hs.hts hin ty0 hty hnm hs.K hc
  obtain ⟨r, h1, cell, q1, q2, q3, q4⟩ := (show xAt g A a _ from Or.inl ha).at hs hr 0 _ rfl
  have hr9 : r = (C, T, N) := Option.some.inj (h1.symm.trans hc)
  subst hr9
  obtain ⟨hS, hfc, kC, hkC, hkind⟩ := hs.K.1 k _ hc
  obtain ⟨cf, kf, fi, f, hi, hsl⟩ := hS j hj
  have hlay := hs.hts (args := args) _ (hin _ (u_in_lay hj))
  unfold u_lay at hlay
  rw [if_neg (by rw [hfin]; decide)] at hlay
  have hst := (u_facts hfc hkC (u_lays (args := args) (ws := lw_all) hs.hts hin hj) hi).1
  have h6 := u_store hfc hkC hkind hlay hi (hty j hj) hv.1 hv.2
  have fin : ∀ (H' : Heap), H'[a]? = some (cell.setSlot f.slot v) → H'.size = H.size → (∀ q, q ≠ a → H'[q]? = H[q]?) → W p g.1 e R s m args below meth c H' (locs ++ [⟨a, f.slot⟩]) cells slots Q9 (F0 m (pc + 3) ls st) := by
    intro H' e1 e2 e3
    rw [hsl] at e1 ⊢
    exact kk H' _ (hr.up ⟨_, hc, t_OB.to (V := updV (vp_V fs) j v) ⟨_, e1, q2, q3, t_set q4 hap hj v⟩ (fun i _ => vp_updV_set hjl v i)⟩ e3) e2 (fun q hq => e3 q (Nat.ne_of_lt (Nat.lt_of_lt_of_le hq hba))) (fun q hq => by rw [List.mem_singleton.mp hq]; exact hba)
  rcases hlk with h | ⟨host, h⟩
  · exact W.putK hC.1 hC.2.1 (f := f) ⟨hC.2.2.2.2.2.1, hs.hts _ h, ⟨_, _, _, hsame.use hs _ hi⟩, hst⟩ (by rw [q2]; exact h6) q1 q3 (by rw [hsl]; exact k2_hasslot (q4 j hj)) rfl rfl hd fin
  · exact va_WputK hC.1 hC.2.1 (f := f) hC.2.2.2.2.2.1 (hs.word h rfl) (hsame.use hs _ hi) hst (by rw [q2]; exact h6) q1 q3 (by rw [hsl]; exact k2_hasslot (q4 j hj)) rfl rfl hd fin
/-- a final field, in a constructor -/
theorem x_putF {k j idx a : Nat} {fs : List Value} {v : Value} {ty : FieldType} (hF : xFF mi.1.cls idx k j ty) (hin2 : mi.1.name = "<init>") (hd : decode mi.2.1 pc = .ok (.putfield idx, 3)) (ha : A.1 a = some (.inr (k, fs))) (hv : xfit ty v) (hjl : j < fs.length) (kq : xW g mi d (pc + 3) L st (xup A a (.inr (k, fs.set j v))) Q) : xW g mi d pc L (v :: .ref a :: st) A Q := by
  obtain ⟨C, T, N, ref, ty0, ⟨hc, hin, hty, hnm⟩, hj, rfl, hfin, hdecl, hsame, hlk⟩ := hF
  refine xW.wr ha ?_ kq
  intro p e R s m args below meth c H locs cells slots ls Q9 hok hC hs hr hl hd1 hd2 kk
  have hba := (hok.2 a _ ha).1
  have hap := va_apart (own := mi.1.cls) (args := args) (Ts := lw_all) hs.hts hin ty0 hty hnm hs.K hc
  obtain ⟨r, h1, cell, q1, q2, q3, q4⟩ := (show xAt g A a _ from Or.inl ha).at hs hr 0 _ rfl
  have hr9 : r = (C, T, N) := Option.some.inj (h1.symm.trans hc)
  subst hr9
  obtain ⟨hS, hfc, kC, hkC, hkind⟩ := hs.K.1 k _ hc
  obtain ⟨cf, kf, fi, f, hi, hsl⟩ := hS j hj
  have hlay := hs.hts (args := args) _ (hin _ (u_in_lay hj))
  unfold u_lay at hlay
  rw [if_pos hfin] at hlay
  have hst := (u_facts hfc hkC (u_lays (args := args) (ws := lw_all) hs.hts hin hj) hi).1
  have hown := hC.2.2.2.2.2.1
  have hcf : m.cls = cf := by
    obtain ⟨_, _, c', _, _, _, -, -, hf', -, -, -, hown2, -⟩ := Cond.laysFinal_spec hlay
    have e1 : c' = cf := by have := hi.symm.trans hf'; simp at this; exact this.1.symm
    rw [hdecl] at hown2
    rw [← e1]; exact Option.some.inj (hown.symm.trans hown2)
  have h6 := u_fits hfc hkC hkind (Or.inr hlay) hi (hty j hj) hv.1 hv.2
  refine W.putFinK hC.1 hC.2.1 hown (hs.hts _ hlk) (hsame.use hs _ hi) hst hcf (by rw [hC.2.2.2.2.2.2.1]; exact hin2) (by rw [q2]; exact h6) q1 q3 (by rw [hsl]; exact k2_hasslot (q4 j hj)) rfl rfl hd fun H' e1 e2 e3 => ?_
  rw [hsl] at e1 ⊢
  exact kk H' _ (hr.up ⟨_, hc, t_OB.to (V := updV (vp_V fs) j v) ⟨_, e1, q2, q3, t_set q4 hap hj v⟩ (fun i _ => vp_updV_set hjl v i)⟩ e3) e2 (fun q hq => e3 q (Nat.ne_of_lt (Nat.lt_of_lt_of_le hq hba))) (fun q hq => by rw [List.mem_singleton.mp hq]; exact hba)
/-! arrays -/
theorem x_iald {a n : Nat} {f : Nat → Int32} {i : Int32} (hd : decode mi.2.1 pc = .ok (.iaload, 1)) (ha : xAt g A a (.inl (0, n, .inl f))) (hin : vp_in i n) (k : xW g mi d (pc + 1) L (.int (f i.toNatClampNeg) :: st) A Q) : xW g mi d pc L (.int i :: .ref a :: st) A Q := xW.pure (by intro p e R s m args below meth c H locs cells slots ls Q9 hC hs hr hl hd1 hd2 kk; exact va_iald hC.1 hC.2.1 hs.K (ha.at hs hr) 0 0 rfl rfl hin hd (kk ls hl)) k
theorem x_bald {a n : Nat} {f : Nat → Int32} {i : Int32} (hd : decode mi.2.1 pc = .ok (.baload, 1)) (ha : xAt g A a (.inl (1, n, .inl f))) (hin : vp_in i n) (k : xW g mi d (pc + 1) L (.int (f i.toNatClampNeg) :: st) A Q) : xW g mi d pc L (.int i :: .ref a :: st) A Q := xW.pure (by intro p e R s m args below meth c H locs cells slots ls Q9 hC hs hr hl hd1 hd2 kk; exact va_bald hC.1 hC.2.1 hs.K (ha.at hs hr) 0 1 rfl rfl hin hd (kk ls hl)) k
theorem x_zald {a n : Nat} {f : Nat → Int32} {i : Int32} (hd : decode mi.2.1 pc = .ok (.baload, 1)) (ha : xAt g A a (.inl (2, n, .inl f))) (hin : vp_in i n) (k : xW g mi d (pc + 1) L (.int (f i.toNatClampNeg) :: st) A Q) : xW g mi d pc L (.int i :: .ref a :: st) A Q := xW.pure (by intro p e R s m args below meth c H locs cells slots ls Q9 hC hs hr hl hd1 hd2 kk; exact va_zald hC.1 hC.2.1 hs.K (ha.at hs hr) 0 2 rfl rfl hin hd (kk ls hl)) k
theorem x_lald {a n : Nat} {f : Nat → Int64} {i : Int32} (hd : decode mi.2.1 pc = .ok (.laload, 1)) (ha : xAt g A a (.inl (3, n, .inr (.inl f)))) (hin : vp_in i n) (k : xW g mi d (pc + 1) L (.long (f i.toNatClampNeg) :: st) A Q) : xW g mi d pc L (.int i :: .ref a :: st) A Q := xW.pure (by intro p e R s m args below meth c H locs cells slots ls Q9 hC hs hr hl hd1 hd2 kk; exact va_lald hC.1 hC.2.1 hs.K (ha.at hs hr) 0 3 rfl rfl hin hd (kk ls hl)) k
theorem x_ald {t a n : Nat} {C : String} {f : Nat → Option Nat} {i : Int32} (hd : decode mi.2.1 pc = .ok (.aaload, 1)) (ht : (xtys g)[t]? = some (xaC g t, .object C)) (ha : xAt g A a (.inl (t, n, .inr (.inr (.inr (.inr f)))))) (hin : vp_in i n) (k : xW g mi d (pc + 1) L (va_rf (f i.toNatClampNeg) :: st) A Q) : xW g mi d pc L (.int i :: .ref a :: st) A Q := xW.pure (by intro p e R s m args below meth c H locs cells slots ls Q9 hC hs hr hl hd1 hd2 kk; exact va_aldq hC.1 hC.2.1 hs.K (ha.at hs hr) 0 t rfl ht hin hd (kk ls hl)) k
theorem x_alen {t a : Nat} {x : vp_A} {ty : FieldType} {v : Int32} (hd : decode mi.2.1 pc = .ok (.arraylength, 1)) (ha : xAt g A a (.inl (t, x))) (ht : (xtys g)[t]? = some (xaC g t, ty)) (hv : Int32.ofNat x.1 = v) (k : xW g mi d (pc + 1) L (.int v :: st) A Q) : xW g mi d pc L (.ref a :: st) A Q := xW.pure (by intro p e R s m args below meth c H locs cells slots ls Q9 hC hs hr hl hd1 hd2 kk; exact va_alen hC.1 hC.2.1 hs.K (ha.at hs hr) 0 t rfl ht hv hd (kk ls hl)) k
theorem x_ast_fin {a t n : Nat} {e0 : xE} {x1 : vp_A} {H H1 : Heap} (hok : xOk g A) (hr : xRep g A H) (ha : A.1 a = some e0) (he : H1[a]? = some (vp_cell (xaC g t) x1)) (oq : ∀ q : Nat, q ≠ a → H1[q]? = H[q]?) : xRep g (xup A a (.inl (t, x1))) H1 ∧ (∀ q : Nat, q < xbase g → H1[q]? = H[q]?) ∧ (∀ q ∈ [(⟨a, n⟩ : Loc)], xbase g ≤ q.base) := by
  have hba := (hok.2 a _ ha).1
  exact ⟨hr.up he oq, fun q hq => oq q (Nat.ne_of_lt (Nat.lt_of_lt_of_le hq hba)), fun q hq => by rw [List.mem_singleton.mp hq]; exact hba⟩
theorem x_iast {a n : Nat} {f : Nat → Int32} {i x : Int32} (hd : decode mi.2.1 pc = .ok (.iastore, 1)) (ha : A.1 a = some (.inl (0, n, .inl f))) (hin : vp_in i n) (k : xW g mi d (pc + 1) L st (xup A a (.inl (0, n, .inl (upd f i.toNatClampNeg x)))) Q) : xW g mi d pc L (.int x :: .int i :: .ref a :: st) A Q := by
  refine xW.wr ha ?_ k
  intro p e R s m args below meth c H locs cells slots ls Q9 hok hC hs hr hl hd1 hd2 kk
  refine W.iast hC.1 hC.2.1 ((show xAt g A a _ from Or.inl ha).at hs hr 0 _ rfl) ((hs.K.2 0 _ rfl).1 n (fun j => .int (f j))) (fun q => by cases q) (by show ¬ (i < 0 ∨ (arrV _ _ _).slots.size ≤ _); rw [arrV_size]; exact hin) rfl rfl hd fun H1 e1 z oq => ?_
  obtain ⟨r1, r2, r3⟩ := x_ast_fin (t := 0) (n := i.toNatClampNeg) (x1 := (n, .inl (upd f i.toNatClampNeg x))) hok hr ha (by
    rw [e1]
    show some (Cell.setSlot (vp_cell _ _) _ _) = _
    rw [vp_cell_i, vp_cell_i, arrV_store]
    congr 2
    funext q
    by_cases hq : q = i.toNatClampNeg
    · subst hq
      simp [updV, upd]
    · simp [updV, upd, hq]) oq
  exact kk H1 _ r1 z r2 r3
theorem x_bast {a n : Nat} {f : Nat → Int32} {i x : Int32} (hd : decode mi.2.1 pc = .ok (.bastore, 1)) (ha : A.1 a = some (.inl (1, n, .inl f))) (hin : vp_in i n) (k : xW g mi d (pc + 1) L st (xup A a (.inl (1, n, .inl (upd f i.toNatClampNeg (vp_nar .byte x))))) Q) : xW g mi d pc L (.int x :: .int i :: .ref a :: st) A Q := by
  refine xW.wr ha ?_ k
  intro p e R s m args below meth c H locs cells slots ls Q9 hok hC hs hr hl hd1 hd2 kk
  refine W.bast hC.1 hC.2.1 ((show xAt g A a _ from Or.inl ha).at hs hr 0 _ rfl) ((hs.K.2 1 _ rfl).1 n (fun j => .int (f j))) (fun q => by cases q) (by show ¬ (i < 0 ∨ (arrV _ _ _).slots.size ≤ _); rw [arrV_size]; exact hin) rfl rfl hd fun H1 e1 z oq => ?_
  obtain ⟨r1, r2, r3⟩ := x_ast_fin (t := 1) (n := i.toNatClampNeg) (x1 := (n, .inl (upd f i.toNatClampNeg (vp_nar .byte x)))) hok hr ha (by
    rw [e1]
    show some (Cell.setSlot (vp_cell _ _) _ _) = _
    rw [vp_cell_i, vp_cell_i, arrV_store]
    congr 2
    funext q
    by_cases hq : q = i.toNatClampNeg
    · subst hq
      simp [updV, upd, vp_nar, narrow]
    · simp [updV, upd, hq]) oq
  exact kk H1 _ r1 z r2 r3
theorem x_zast {a n : Nat} {f : Nat → Int32} {i x : Int32} (hd : decode mi.2.1 pc = .ok (.bastore, 1)) (ha : A.1 a = some (.inl (2, n, .inl f))) (hin : vp_in i n) (k : xW g mi d (pc + 1) L st (xup A a (.inl (2, n, .inl (upd f i.toNatClampNeg (vp_nar .boolean x))))) Q) : xW g mi d pc L (.int x :: .int i :: .ref a :: st) A Q := by
  refine xW.wr ha ?_ k
  intro p e R s m args below meth c H locs cells slots ls Q9 hok hC hs hr hl hd1 hd2 kk
  refine W.zast hC.1 hC.2.1 ((show xAt g A a _ from Or.inl ha).at hs hr 0 _ rfl) ((hs.K.2 2 _ rfl).1 n (fun j => .int (f j))) (fun q => by cases q) (by show ¬ (i < 0 ∨ (arrV _ _ _).slots.size ≤ _); rw [arrV_size]; exact hin) rfl rfl hd fun H1 e1 z oq => ?_
  obtain ⟨r1, r2, r3⟩ := x_ast_fin (t := 2) (n := i.toNatClampNeg) (x1 := (n, .inl (upd f i.toNatClampNeg (vp_nar .boolean x)))) hok hr ha (by
    rw [e1]
    show some (Cell.setSlot (vp_cell _ _) _ _) = _
    rw [vp_cell_i, vp_cell_i, arrV_store]
    congr 2
    funext q
    by_cases hq : q = i.toNatClampNeg
    · subst hq
      simp [updV, upd, vp_nar, narrow]
    · simp [updV, upd, hq]) oq
  exact kk H1 _ r1 z r2 r3
theorem x_last {a n : Nat} {f : Nat → Int64} {i : Int32} {x : Int64} (hd : decode mi.2.1 pc = .ok (.lastore, 1)) (ha : A.1 a = some (.inl (3, n, .inr (.inl f)))) (hin : vp_in i n) (k : xW g mi d (pc + 1) L st (xup A a (.inl (3, n, .inr (.inl (vp_updL f i.toNatClampNeg x))))) Q) : xW g mi d pc L (.long x :: .int i :: .ref a :: st) A Q := by
  refine xW.wr ha ?_ k
  intro p e R s m args below meth c H locs cells slots ls Q9 hok hC hs hr hl hd1 hd2 kk
  refine W.last hC.1 hC.2.1 ((show xAt g A a _ from Or.inl ha).at hs hr 0 _ rfl) ((hs.K.2 3 _ rfl).1 n (fun j => .long (f j))) (fun q => by cases q) (by show ¬ (i < 0 ∨ (arrV _ _ _).slots.size ≤ _); rw [arrV_size]; exact hin) rfl rfl hd fun H1 e1 z oq => ?_
  obtain ⟨r1, r2, r3⟩ := x_ast_fin (t := 3) (n := i.toNatClampNeg) (x1 := (n, .inr (.inl (vp_updL f i.toNatClampNeg x)))) hok hr ha (by
    rw [e1]
    show some (Cell.setSlot (vp_cell _ _) _ _) = _
    rw [vp_cell_l, vp_cell_l, arrV_store]
    congr 2
    funext q
    by_cases hq : q = i.toNatClampNeg
    · subst hq
      simp [updV, vp_updL]
    · simp [updV, vp_updL, hq]) oq
  exact kk H1 _ r1 z r2 r3
theorem x_astN {t a n : Nat} {C : String} {f : Nat → Option Nat} {i : Int32} (hd : decode mi.2.1 pc = .ok (.aastore, 1)) (ht : (xtys g)[t]? = some (xaC g t, .object C)) (ha : A.1 a = some (.inl (t, n, .inr (.inr (.inr (.inr f)))))) (hin : vp_in i n) (k : xW g mi d (pc + 1) L st (xup A a (.inl (t, n, .inr (.inr (.inr (.inr (va_up f i.toNatClampNeg none))))))) Q) : xW g mi d pc L (.null :: .int i :: .ref a :: st) A Q := by
  refine xW.wr ha ?_ k
  intro p e R s m args below meth c H locs cells slots ls Q9 hok hC hs hr hl hd1 hd2 kk
  refine va_WaastN (C := C) hC.1 hC.2.1 ((show xAt g A a _ from Or.inl ha).at hs hr 0 _ rfl) ((hs.K.2 t _ ht).1 n (fun j => va_rf (f j))) (fun q => by cases q) (by show ¬ (i < 0 ∨ (arrV _ _ _).slots.size ≤ _); rw [arrV_size]; exact hin) rfl rfl hd fun H1 e1 z oq => ?_
  obtain ⟨r1, r2, r3⟩ := x_ast_fin (t := t) (n := i.toNatClampNeg) (x1 := (n, .inr (.inr (.inr (.inr (va_up f i.toNatClampNeg none)))))) hok hr ha (by
    rw [e1]
    show some (Cell.setSlot (vp_cell _ _) _ _) = _
    rw [vp_cell_q, vp_cell_q, arrV_store]
    congr 2
    funext q
    by_cases hq : q = i.toNatClampNeg
    · subst hq
      simp [updV, va_up, va_rf]
    · simp [updV, va_up, hq]) oq
  exact kk H1 _ r1 z r2 r3
/-- an object of a known class into an array of references; its class is the component's, or castable to it -/
theorem x_ast {t a n ci v : Nat} {C : String} {vs : List Value} {f : Nat → Option Nat} {i : Int32} {cl1 : vw_C} (hd : decode mi.2.1 pc = .ok (.aastore, 1)) (ht : (xtys g)[t]? = some (xaC g t, .object C)) (ha : A.1 a = some (.inl (t, n, .inr (.inr (.inr (.inr f)))))) (hv : xAt g A v (.inr (ci, vs))) (hc : xcl[ci]? = some cl1) (hw : cl1.1 = C ∨ Cond.castable cl1.1 C ∈ lw_tbl) (hin : vp_in i n) (k : xW g mi d (pc + 1) L st (xup A a (.inl (t, n, .inr (.inr (.inr (.inr (va_up f i.toNatClampNeg (some v)))))))) Q) : xW g mi d pc L (.ref v :: .int i :: .ref a :: st) A Q := by
  refine xW.wr ha ?_ k
  intro p e R s m args below meth c H locs cells slots ls Q9 hok hC hs hr hl hd1 hd2 kk
  have hlt : i.toNatClampNeg < n := Nat.not_le.mp fun q => hin (Or.inr q)
  have h0 : ¬ i < 0 := fun q => hin (Or.inl q)
  obtain ⟨r', hr', cellV, g1, g2, g3, -⟩ := hv.at hs hr 0 _ rfl
  have hr9 : r' = cl1 := Option.some.inj (hr'.symm.trans hc)
  subst hr9
  have hcls := (hs.K.1 ci _ hc).2
  obtain ⟨kA, comp, k1, k2, k3, -⟩ := (hs.K.2 t _ ht).2
  have hasg : s.vm.assignable ((xD g).1 ci) comp = true := by
    rcases hw with hw | hw
    · have hcomp : comp = (xD g).1 ci := Option.some.inj (k3.symm.trans (hw ▸ hcls.1))
      rw [hcomp]
      exact va_assign hcls
    · obtain ⟨c3, t3, w1, w2, w3⟩ := Cond.castable_spec (hs.word (args := args) hw rfl)
      cases Option.some.inj (hcls.1.symm.trans w1)
      cases Option.some.inj (k3.symm.trans w2)
      exact w3
  obtain ⟨kC, hkC, -⟩ := hcls.2
  have hkcomp : ∃ kcomp : Class, s.vm.classes[comp]? = some kcomp := by
    obtain ⟨k9, h9, -⟩ := Vm.findClass_spec k3
    exact ⟨k9, h9⟩
  obtain ⟨kcomp, hkcomp⟩ := hkcomp
  refine W.aast hC.1 hC.2.1 ((show xAt g A a _ from Or.inl ha).at hs hr 0 _ rfl) (fun q h => by cases h) (fun h => by cases h) k1 k2 rfl hkcomp ⟨h0, by show _ < (arrV _ _ _).slots.size; rw [arrV_size]; exact hlt⟩ g1 (fun q h => by rw [g3] at h; cases h) (by rw [g2]; exact hkC) (by rw [g2]; exact hasg) rfl rfl hd fun H1 e1 z oq => ?_
  obtain ⟨r1, r2, r3⟩ := x_ast_fin (t := t) (n := i.toNatClampNeg) (x1 := (n, .inr (.inr (.inr (.inr (va_up f i.toNatClampNeg (some v))))))) hok hr ha (by
    rw [e1]
    show some (Cell.setSlot (vp_cell _ _) _ _) = _
    rw [vp_cell_q, vp_cell_q, arrV_store]
    congr 2
    funext q
    by_cases hq : q = i.toNatClampNeg
    · subst hq
      simp [updV, va_up, va_rf]
    · simp [updV, va_up, hq]) oq
  exact kk H1 _ r1 z r2 r3
/-! making -/
def xNA (t : Nat) (at9 : ArrayType) (x : Nat → vp_A) : Prop := (t = 0 ∧ at9 = .int ∧ x = fun n => (n, .inl fun _ => 0)) ∨ (t = 1 ∧ at9 = .byte ∧ x = fun n => (n, .inl fun _ => 0)) ∨ (t = 2 ∧ at9 = .boolean ∧ x = fun n => (n, .inl fun _ => 0)) ∨ (t = 3 ∧ at9 = .long ∧ x = fun n => (n, .inr (.inl fun _ => 0)))
theorem x_newa {t N' : Nat} {at9 : ArrayType} {x : Nat → vp_A} {n : Int32} (hx : xNA t at9 x) (hq : Cond.arrayClass (newarray.typeOf at9) ∈ lw_all) (hd : decode mi.2.1 pc = .ok (.newarray at9, 2)) (hn : ¬ n < 0) (hN : n.toNatClampNeg = N') (hb9 : N' ≤ 65536) (k : xW g mi d (pc + 2) L (.ref A.2.1 :: st) (xal A (.inl (t, x N')) N') Q) : xW g mi d pc L (.int n :: st) A Q := by
  refine xW.make ?_ k
  intro p e R s m args below meth c H locs cells slots ls Q9 hC hs hr hz hl hd1 hd2 hc hsl kk
  have hK := hs.K
  refine va_newaK hC.1 hC.2.1 (hs.hts _ hq) rfl hd rfl hn hN (by rcases hx with ⟨-, rfl, -⟩ | ⟨-, rfl, -⟩ | ⟨-, rfl, -⟩ | ⟨-, rfl, -⟩ <;> simp [newarray.typeOf, componentBytes] <;> omega) hc hsl hz fun H1 cA e1 z1 o1 hAr hNm => ?_
  refine kk H1 ?_ (by rw [z1, hz]) (fun q hq => o1 q (by rw [← hz]; exact hq))
  rcases hx with ⟨rfl, rfl, rfl⟩ | ⟨rfl, rfl, rfl⟩ | ⟨rfl, rfl, rfl⟩ | ⟨rfl, rfl, rfl⟩
  · have h2 : s.vm.findClass _ = some (xaC g 0) := (hK.2 0 _ rfl).2
    have : cA = xaC g 0 := Option.some.inj (hNm.symm.trans h2)
    subst this
    exact e1
  · have h2 : s.vm.findClass _ = some (xaC g 1) := (hK.2 1 _ rfl).2
    have : cA = xaC g 1 := Option.some.inj (hNm.symm.trans h2)
    subst this
    exact e1
  · have h2 : s.vm.findClass _ = some (xaC g 2) := (hK.2 2 _ rfl).2
    have : cA = xaC g 2 := Option.some.inj (hNm.symm.trans h2)
    subst this
    exact e1
  · have h2 : s.vm.findClass _ = some (xaC g 3) := (hK.2 3 _ rfl).2
    have : cA = xaC g 3 := Option.some.inj (hNm.symm.trans h2)
    subst this
    exact e1
theorem x_newq {t N' idx : Nat} {C : String} {n : Int32} (ht : (xtys g)[t]? = some (xaC g t, .object C)) (hlk : Cond.classLink mi.1.cls idx C ∈ lw_all) (hov : Cond.arrayOver (.object C) ∈ lw_tbl) (hd : decode mi.2.1 pc = .ok (.anewarray idx, 3)) (hn : ¬ n < 0) (hN : n.toNatClampNeg = N') (hb9 : N' ≤ 65536) (k : xW g mi d (pc + 3) L (.ref A.2.1 :: st) (xal A (.inl (t, N', .inr (.inr (.inr (.inr fun _ => none))))) N') Q) : xW g mi d pc L (.int n :: st) A Q := by
  refine xW.make ?_ k
  intro p e R s m args below meth c H locs cells slots ls Q9 hC hs hr hz hl hd1 hd2 hc hsl kk
  subst hN
  refine W.anew hC.1 hC.2.1 hC.2.2.2.2.2.1 (hs.hts _ hlk) (hs.word (args := args) hov rfl) rfl hd rfl hn (by omega) hc hsl fun cA kA comp f1 f2 f3 f4 => ?_
  have hcA : cA = xaC g t := by
    obtain ⟨-, -, -, -, -, h4⟩ := (hs.K.2 t _ ht).2
    exact Option.some.inj (f1.symm.trans h4)
  subst hcA
  rw [hz]
  refine kk _ ?_ (by simp) (fun q hq => by rw [Array.getElem?_push, if_neg (Nat.ne_of_lt hq)])
  show (H.push _)[A.2.1]? = some (vp_cell _ _)
  rw [← hz, Array.getElem?_push_size, vp_cell_q, arrV_new]
  rfl
/-- a new object of class k, its fields fs at their zeros -/
def xNW (own : String) (idx k n : Nat) (fs : List Value) : Prop := ∃ (C : String) (T : u_T) (ty0 : Nat → FieldType), xFT k C T n ty0 ∧ Cond.classLink own idx C ∈ lw_all ∧ Cond.instantiable C n ∈ lw_all ∧ Cond.initialized C ∈ lw_all ∧ ∀ j, j < n → defaultValue (ty0 j) = vp_V fs j
theorem x_new {idx k9 n : Nat} {fs : List Value} (hw : xNW mi.1.cls idx k9 n fs) (hd : decode mi.2.1 pc = .ok (.new idx, 3)) (k : xW g mi d (pc + 3) L (.ref A.2.1 :: st) (xal A (.inr (k9, fs)) n) Q) : xW g mi d pc L st A Q := by
  obtain ⟨C, T, ty0, ⟨hc9, hin, hty, hnm⟩, h1, h2, h3, h4⟩ := hw
  refine xW.make ?_ k
  intro p e R s m args below meth c H locs cells slots ls Q9 hC hs hr hz hl hd1 hd2 hc hsl kk
  have hKn := hs.K.1 k9 _ hc9
  refine W.newcK hC.1 hC.2.1 hC.2.2.2.2.2.1 (hs.hts _ h1) (hs.hts _ h2) (hs.hts _ h3) rfl hd hc hsl hKn.2.1 hz fun H1 kC hkC e1 z1 o1 => ?_
  exact kk H1 ⟨_, hc9, (u_born (args := args) (ws := lw_all) ty0 hs.hts hin hKn hkC e1 hty).to h4⟩ (by rw [z1, hz]) (fun q hq => o1 q (by rw [← hz]; exact hq))
/-! ends -/
theorem x_end {o : Outcome} {v : Option Value} (ho : o = .returned v) {pc : Nat} {st : List Value}
    (h : ∀ (p : Program) (e : Env) (R : Room) (s : State) (m : MethodId) (args : Array Value) (below : List Frame) (meth : Method) (c : Code) (H : Heap) (locs : List Loc) (cells slots : Nat) (ls : Array Slot) (Qc : Array Value → State → Outcome → State → Prop) (free : Addr → Prop), xCx mi p s m meth c → (∀ t : State, t.heap = H → s.WarmedH t.vm → Qc args s o t) → (∀ q ∈ locs, free q.base) → W p g.1 e R s m args below meth c H locs cells slots (MQ below Qc args s cells slots free) (F0 m pc ls st))
    (hq : Q o A) : xW g mi d pc L st A Q := by
  intro hok
  refine ⟨o, A, hok, Nat.le_refl _, Nat.le_refl _, Or.inl ⟨v, ho⟩, hq, ?_⟩
  intro p e R s m args below meth c H locs cells slots ls hC hs hr hz hl hlo hc hsl hd hd2
  rw [Nat.sub_self, Nat.sub_self, Nat.add_zero, Nat.add_zero]
  refine xW_mono (fun t ht => ?_) (h p e R s m args below meth c H locs cells slots ls (fun _ _ oc t => oc = o ∧ t.heap = H) (fun q => xbase g ≤ q) hC (fun t h1 _ => ⟨rfl, h1⟩) hlo)
  obtain ⟨o2, k1, k2, ⟨rfl, k3⟩, Lo, ⟨-, k5, k6⟩, k7⟩ := ht
  exact ⟨k1, k2, by rw [k3]; exact hr, by rw [k3]; exact hz, fun q _ => by rw [k3], k5, Lo, k7, k6⟩
theorem x_ireturn {v : Int32} {ty : FieldType} (hd : decode mi.2.1 pc = .ok (.ireturn, 1)) (hr : mi.2.2.2.1 = some ty) (hn : narrow ty (.int v) = .int v) (hq : Q (.returned (some (.int v))) A) : xW g mi d pc L [.int v] A Q := x_end rfl (by
  intro p e R s m args below meth c H locs cells slots ls Qc free hC hq hf
  exact W.zret hC.1 hC.2.1 (hC.2.2.1.trans hr) hn hq hf hd hC.2.2.2.1) hq
theorem x_return (hd : decode mi.2.1 pc = .ok (.return_, 1)) (hr : mi.2.2.2.1 = none) (hq : Q (.returned none) A) : xW g mi d pc L [] A Q := x_end rfl (by
  intro p e R s m args below meth c H locs cells slots ls Qc free hC hq hf
  exact W.vret hC.1 hC.2.1 (hC.2.2.1.trans hr) hq hf hd hC.2.2.2.1) hq
theorem x_lreturn {v : Int64} (hd : decode mi.2.1 pc = .ok (.lreturn, 1)) (hr : mi.2.2.2.1 = some .long) (hq : Q (.returned (some (.long v))) A) : xW g mi d pc L [.long v] A Q := x_end rfl (by
  intro p e R s m args below meth c H locs cells slots ls Qc free hC hq hf
  exact W.lret hC.1 hC.2.1 (hC.2.2.1.trans hr) hq hf hd hC.2.2.2.1) hq
theorem x_freturn {v : UInt32} (hd : decode mi.2.1 pc = .ok (.freturn, 1)) (hr : mi.2.2.2.1 = some .float) (hq : Q (.returned (some (.float v))) A) : xW g mi d pc L [.float v] A Q := x_end rfl (by
  intro p e R s m args below meth c H locs cells slots ls Qc free hC hq hf
  exact W.fret hC.1 hC.2.1 (hC.2.2.1.trans hr) hq hf hd hC.2.2.2.1) hq
theorem x_dreturn {v : UInt64} (hd : decode mi.2.1 pc = .ok (.dreturn, 1)) (hr : mi.2.2.2.1 = some .double) (hq : Q (.returned (some (.double v))) A) : xW g mi d pc L [.double v] A Q := x_end rfl (by
  intro p e R s m args below meth c H locs cells slots ls Qc free hC hq hf
  exact W.dret hC.1 hC.2.1 (hC.2.2.1.trans hr) hq hf hd hC.2.2.2.1) hq
theorem x_areturn {v : Value} {rt : FieldType} (hd : decode mi.2.1 pc = .ok (.areturn, 1)) (hr : mi.2.2.2.1 = some rt) (hrt : (∃ n, rt = .object n) ∨ ∃ t, rt = .array t) (hv : v = .null ∨ ∃ a, v = .ref a) (hq : Q (.returned (some v)) A) : xW g mi d pc L [v] A Q := x_end rfl (by
  intro p e R s m args below meth c H locs cells slots ls Qc free hC hq hf
  exact W.aret hC.1 hC.2.1 (hC.2.2.1.trans hr) hrt hv hq hf hd hC.2.2.2.1) hq
/-! statics, constants, casts -/
theorem x_gets {C ref n d9 : String} {idx : Nat} {v : Value} (hv : xsv g C n d9 v) (hlk : Cond.fieldLink mi.1.cls idx ref n d9 ∈ lw_all) (hsame : ref = C ∨ Cond.sameField ref C n d9 ∈ lw_all) (hd : decode mi.2.1 pc = .ok (.getstatic idx, 3)) (k : xW g mi d (pc + 3) L (v :: st) A Q) : xW g mi d pc L st A Q := xW.pure (by
  intro p e R s m args below meth c H locs cells slots ls Q9 hC hs hr hl hd1 hd2 kk
  obtain ⟨cf, kf, fi, f, a, cell, h1, h2, h3, h4, h5, h6, h7, h8⟩ := hs.2.2.2.2.2.2.1 C n d9 v hv
  have hs9 : ∀ x, s.fieldFound? C n d9 = some x → s.fieldFound? ref n d9 = some x := by
    rcases hsame with h | h
    · intro x hx; rw [h]; exact hx
    · exact u_same (hs.hts (args := args) _ h)
  exact W.gets hC.1 hC.2.1 hC.2.2.2.2.2.1 (hs.hts _ hlk) (hs9 _ h1) h2 h3 h4 h5 (fun e => by rw [e] at h6; cases h6) h7 rfl hd (kk ls hl)) k
theorem x_ldcS {idx a : Nat} (hr9 : xsr g mi.1.cls idx a) (hd : decode mi.2.1 pc = .ok (.ldc idx, 2)) (k : xW g mi d (pc + 2) L (.ref a :: st) A Q) : xW g mi d pc L st A Q := xW.pure (by
  intro p e R s m args below meth c H locs cells slots ls Q9 hC hs hr hl hd1 hd2 kk
  obtain ⟨tx, ht⟩ := hs.2.2.2.2.2.2.2.1 _ _ _ hr9
  exact va_ldcS hC.1 hC.2.1 hC.2.2.2.2.2.1 ht hd (kk ls hl)) k
theorem x_ldc {idx : Nat} {v : Int32} (hw : Cond.constant mi.1.cls idx v ∈ lw_all) (hd : decode mi.2.1 pc = .ok (.ldc idx, 2)) (k : xW g mi d (pc + 2) L (.int v :: st) A Q) : xW g mi d pc L st A Q := xW.pure (by
  intro p e R s m args below meth c H locs cells slots ls Q9 hC hs hr hl hd1 hd2 kk
  exact lv_ldc hC.1 hC.2.1 hC.2.2.2.2.2.1 (hs.hts _ hw) hd (kk ls hl)) k
theorem x_ldcw {idx : Nat} {v : Int32} (hw : Cond.constant mi.1.cls idx v ∈ lw_all) (hd : decode mi.2.1 pc = .ok (.ldc_w idx, 3)) (k : xW g mi d (pc + 3) L (.int v :: st) A Q) : xW g mi d pc L st A Q := xW.pure (by
  intro p e R s m args below meth c H locs cells slots ls Q9 hC hs hr hl hd1 hd2 kk
  exact lv_ldcw hC.1 hC.2.1 hC.2.2.2.2.2.1 (hs.hts _ hw) hd (kk ls hl)) k
theorem x_ldcf {idx : Nat} {v : UInt32} (hw : Cond.constantFloat mi.1.cls idx v ∈ lw_all) (hd : decode mi.2.1 pc = .ok (.ldc idx, 2)) (k : xW g mi d (pc + 2) L (.float v :: st) A Q) : xW g mi d pc L st A Q := xW.pure (by
  intro p e R s m args below meth c H locs cells slots ls Q9 hC hs hr hl hd1 hd2 kk
  exact lv_ldcf hC.1 hC.2.1 hC.2.2.2.2.2.1 (hs.hts _ hw) hd (kk ls hl)) k
theorem x_ldc2 {idx : Nat} {v : Int64} (hw : Cond.constantLong mi.1.cls idx v ∈ lw_all) (hd : decode mi.2.1 pc = .ok (.ldc2_w idx, 3)) (k : xW g mi d (pc + 3) L (.long v :: st) A Q) : xW g mi d pc L st A Q := xW.pure (by
  intro p e R s m args below meth c H locs cells slots ls Q9 hC hs hr hl hd1 hd2 kk
  exact lv_ldc2 hC.1 hC.2.1 hC.2.2.2.2.2.1 (hs.hts _ hw) hd (kk ls hl)) k
theorem x_recv {a ci : Nat} {fs : List Value} {q : vw_C} {s : State} {H : Heap} (hs : xSW g s H) (hr : xRep g A H) (ha : xAt g A a (.inr (ci, fs))) (hc : xcl[ci]? = some q) : ∃ cell : Cell, H[a]? = some cell ∧ cell.vm.isStatics = false ∧ s.vm.findClass q.1 = some cell.cls := va_recv hs.K (ha.at hs hr) (q0 := 0) hc rfl
theorem x_castY {idx a ci : Nat} {fs : List Value} {q : vw_C} {nm : String} (hd : decode mi.2.1 pc = .ok (.checkcast idx, 3)) (hlk : Cond.classLink mi.1.cls idx nm ∈ lw_all) (ha : xAt g A a (.inr (ci, fs))) (hc : xcl[ci]? = some q) (hw : q.1 = nm ∨ Cond.castable q.1 nm ∈ lw_tbl) (k : xW g mi d (pc + 3) L (.ref a :: st) A Q) : xW g mi d pc L (.ref a :: st) A Q := xW.pure (by
  intro p e R s m args below meth c H locs cells slots ls Q9 hC hs hr hl hd1 hd2 kk
  rcases hw with h | h
  · exact va_castS hC.1 hC.2.1 hC.2.2.2.2.2.1 (hs.hts _ hlk) (h ▸ (hs.K.1 ci _ hc).2) (h ▸ x_recv hs hr ha hc) hd (kk ls hl)
  · exact va_castY hC.1 hC.2.1 hC.2.2.2.2.2.1 (hs.hts _ hlk) (va_Nw.of rfl (hs.word (args := args) h rfl)) (x_recv hs hr ha hc) hd (kk ls hl)) k
theorem x_castN {idx : Nat} (hd : decode mi.2.1 pc = .ok (.checkcast idx, 3)) (k : xW g mi d (pc + 3) L (.null :: st) A Q) : xW g mi d pc L (.null :: st) A Q := xW.pure (by
  intro p e R s m args below meth c H locs cells slots ls Q9 hC hs hr hl hd1 hd2 kk
  exact lv_castN hC.1 hC.2.1 hd (kk ls hl)) k
theorem x_instY {idx a ci : Nat} {fs : List Value} {q : vw_C} {nm : String} (hd : decode mi.2.1 pc = .ok (.instanceof idx, 3)) (hlk : Cond.classLink mi.1.cls idx nm ∈ lw_all) (ha : xAt g A a (.inr (ci, fs))) (hc : xcl[ci]? = some q) (hw : q.1 = nm ∨ Cond.castable q.1 nm ∈ lw_tbl) (k : xW g mi d (pc + 3) L (.int 1 :: st) A Q) : xW g mi d pc L (.ref a :: st) A Q := xW.pure (by
  intro p e R s m args below meth c H locs cells slots ls Q9 hC hs hr hl hd1 hd2 kk
  rcases hw with h | h
  · exact va_instS hC.1 hC.2.1 hC.2.2.2.2.2.1 (hs.hts _ hlk) (h ▸ (hs.K.1 ci _ hc).2) (h ▸ x_recv hs hr ha hc) hd (kk ls hl)
  · exact va_instY hC.1 hC.2.1 hC.2.2.2.2.2.1 (hs.hts _ hlk) (va_Nw.of rfl (hs.word (args := args) h rfl)) (x_recv hs hr ha hc) hd (kk ls hl)) k
end XR2

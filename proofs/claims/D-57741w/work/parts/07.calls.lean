/-! calls -/
section XR3
/-- a method's own word -/
def xcode (mi : xM) : Cond := match mi.2.2.2.2 with
  | [] => .code mi.1 mi.2.1 mi.2.2.1 mi.2.2.2.1
  | hh => .codeWith mi.1 mi.2.1 mi.2.2.1 mi.2.2.2.1 hh
theorem xcode_spec {mi : xM} {args : Array Value} {s : State} (h : (xcode mi).before args s = true) : ∃ (m : MethodId) (meth : Method) (c : Code), s.methodNamed? mi.1 = some m ∧ s.vm.method? m = some meth ∧ meth.code = some c ∧ c.code = mi.2.1 ∧ c.maxLocals = mi.2.2.1 ∧ meth.sig.returnType = mi.2.2.2.1 ∧ meth.locks = false ∧ c.exceptionTable.toList = tableOf mi.2.2.2.2 ∧ parseMethodDescriptor mi.1.desc = some meth.sig := by
  obtain ⟨y, cc, nL, ret, hh⟩ := mi
  cases hh with
  | nil =>
    have h : (Cond.code y cc nL ret).before args s = true := h
    obtain ⟨m, hn⟩ := Cond.code_named h
    obtain ⟨meth, c, h1, h2, h3, h4, h5, h6, h7, h8⟩ := Cond.code_spec hn h
    exact ⟨m, meth, c, hn, h1, h2, h3, h4, h5, h6, by rw [Array.isEmpty_iff.mp h7]; rfl, h8⟩
  | cons a t =>
    have h : (Cond.codeWith y cc nL ret (a :: t)).before args s = true := h
    obtain ⟨m, meth, c, hn, h1, h2, h3, h4, h5, h6, h7, h8⟩ := Cond.codeWith_spec h
    exact ⟨m, meth, c, hn, h1, h2, h3, h4, h6, h7, by rw [← h5, table_eq], h8⟩
theorem xcode_good {mi : xM} (h : xcode mi ∈ lw_all) : ∀ w ∈ xcode mi :: lw_all, w ∈ lw_all := fun w hw => (List.mem_cons.mp hw).elim (fun e => by rw [e]; exact h) id
def xrm (d mc ms : Nat) : Room := { frames := d, cells := mc, slots := ms, locals := 64 * d }
def xPc (g : xG) (av : List Value) (A : xA) : Array Value → State → Prop := fun a U => a = av.toArray ∧ xSW g U U.heap ∧ xRep g A U.heap ∧ U.heap.size = A.2.1
def xQm (g : xG) (o : Outcome) (A' : xA) (mc ms : Nat) : Array Value → State → Outcome → State → Prop := fun _ st oc t => oc = o ∧ xRep g A' t.heap ∧ t.heap.size = A'.2.1 ∧ (∀ q : Nat, q < xbase g → t.heap[q]? = st.heap[q]?) ∧ st.WarmedH t.vm ∧ ∃ Lo : List Loc, (∀ q ∈ Lo, xbase g ≤ q.base) ∧ st.sameButNew ({ t with vm := st.vm } : State) Lo mc ms
theorem x_met {g : xG} {mi : xM} {d : Nat} {av : List Value} {A : xA} {o : Outcome} {A' : xA} (hy : plainFor mi.1 = true) (hsl : (lg_sl av).length ≤ mi.2.2.1) (hgo : xGo g mi d 0 (xpad mi.2.2.1 (xent av)) [] A o A') :
    MetFree g.1 mi.1 (headSpec (xcode mi :: lw_all) (xrm d (A'.2.1 - A.2.1) (A'.2.2 - A.2.2))) (xPc g av A) (fun _ _ _ _ _ => True) (xQm g o A' (A'.2.1 - A.2.1) (A'.2.2 - A.2.2)) := by
  refine MetFree.of_bodySF (code := mi.2.1) (maxLocals := mi.2.2.1) (ret := mi.2.2.2.1) hy ?_ ?_
  · intro args s m h hn
    obtain ⟨m9, meth, c, hn9, h1, h2, h3, h4, h5, h6, -, -⟩ := xcode_spec (atoms_spec (ws := xcode mi :: lw_all) h _ List.mem_cons_self)
    cases hn.symm.trans hn9
    exact ⟨meth, c, h1, h2, h3, h4, h5, h6⟩
  · intro p e s m args below meth c s₁ B hml hP _
    obtain ⟨rfl, hsw, hrep, hz⟩ := hP
    have hh0 : s₁.heap = s.heap := by rw [B.state]; rfl
    have hcode := atoms_spec (ws := xcode mi :: lw_all) B.pre _ List.mem_cons_self
    have htab : c.exceptionTable.toList = tableOf mi.2.2.2.2 := by
      obtain ⟨m9, meth9, c9, hn9, h1, h2, -, -, -, -, h7, -⟩ := xcode_spec hcode
      cases Option.some.inj (hn9.symm.trans B.named)
      cases Option.some.inj (h1.symm.trans B.method)
      cases Option.some.inj (h2.symm.trans (Stand.of_body B).code)
      exact h7
    have hC : xCx mi p s m meth c := ⟨B.exec, B.bytes, B.returns, B.notSynchronized, hml, findClass_of_methodNamed B.named, (name_of_methodNamed B.named B.method).1, htab⟩
    have hl := xloc_entry av hsl
    have K := hgo p e (xrm d (A'.2.1 - A.2.1) (A'.2.2 - A.2.2)) s m av.toArray below meth c s.heap [] 0 0 _ hC hsw hrep hz hl (fun q hq => by cases hq) (by show 0 + _ ≤ A'.2.1 - A.2.1; omega) (by show 0 + _ ≤ A'.2.2 - A.2.2; omega) (Nat.le_refl _) (Nat.le_refl _)
    rw [← lg_entry_eq] at K
    obtain ⟨t, a1, b1⟩ := K s₁ hh0 (Stand.of_body B)
    obtain ⟨k1, k2, k3, k4, k5, k6, Lo, k7, k8⟩ := b1
    rw [Nat.zero_add, Nat.zero_add] at k8
    exact ⟨t, o, a1, k1, k2, rfl, k3, k4, k5, k6, Lo, k7, k8⟩
def xPre (g : xG) (R : Room) (av : List Value) (A : xA) (mc ms : Nat) : Pt → Array Value → Prop := fun P a => P.cells + mc ≤ R.cells ∧ P.slots + ms ≤ R.slots ∧ xPc g av A a P.U
def xAft (g : xG) (A' : xA) (mc ms : Nat) (P B : Pt) : Prop := xRep g A' B.U.heap ∧ B.U.heap.size = A'.2.1 ∧ (∀ q : Nat, q < xbase g → B.U.heap[q]? = P.U.heap[q]?) ∧ B.cells = P.cells + mc ∧ B.slots = P.slots + ms ∧ ∃ Lo : List Loc, B.locs = P.locs ++ Lo ∧ ∀ q ∈ Lo, xbase g ≤ q.base
def xPost (g : xG) (o : Outcome) (A' : xA) (mc ms : Nat) : Pt → Array Value → Option Value → Pt → Prop := fun P _ v B => o = .returned v ∧ xAft g A' mc ms P B
def xPostX (g : xG) (o : Outcome) (A' : xA) (mc ms : Nat) : Pt → Array Value → Addr → Pt → Prop := fun P _ q B => o = .threw q ∧ xAft g A' mc ms P B
theorem xSW.frames {g : xG} {U V : State} {H : Heap} (h : xSW g U H) (hv : V.vm = U.vm) (hz : V.heap = U.heap) : xSW g V H := h.move (V := V) (by rw [hv]; exact State.WarmedH.refl U) h.1 (fun _ _ => rfl)
theorem x_back {g : xG} {mi : xM} {d : Nat} {av : List Value} {A0 : xA} {o : Outcome} {A' : xA} {R : Room} {p : Program} {e : Env} {below : List Frame} {s : State} {sargs : Array Value} {len : Nat} (hy : plainFor mi.1 = true) (hsl : (lg_sl av).length ≤ mi.2.2.1) (hgo : xGo g mi d 0 (xpad mi.2.2.1 (xent av)) [] A0 o A') (hout : (∃ v, o = .returned v) ∨ ∃ q, o = .threw q)
    (hframes : d + 1 ≤ R.frames) (hlocals : 8 + (mi.2.2.1 + 11) + 64 * d ≤ R.locals) (hts : ∀ w ∈ lw_all, w.before sargs s = true) (hcode : xcode mi ∈ lw_all) (hinit : Cond.initialized mi.1.cls ∈ lw_all) :
    vx_Back g.1 R p e below s sargs mi.1 len 8 (xPre g R av A0 (A'.2.1 - A0.2.1) (A'.2.2 - A0.2.2)) (xPost g o A' (A'.2.1 - A0.2.1) (A'.2.2 - A0.2.2)) (xPostX g o A' (A'.2.1 - A0.2.1) (A'.2.2 - A0.2.2)) := by
  have hM := x_met hy hsl hgo
  generalize A'.2.1 - A0.2.1 = mc at hM ⊢
  generalize A'.2.2 - A0.2.2 = ms at hM ⊢
  intro m meth c A f ig mk a X hg hsize hdg hW hn hp
  have mvw : ∀ w ∈ lw_all, ∀ (a' : Array Value), w.before a' A.U = true := fun w hw a' => word_at X.warmed (good_of_word (List.mem_filter.mp hw).2) (hts w hw)
  have h1 : (headSpec (xcode mi :: lw_all) (xrm d mc ms)).pre.before a A.U = true := atoms_intro fun w hw => mvw w (xcode_good hcode w hw) a
  have h2 : (xcode mi).before a A.U = true := mvw _ hcode a
  have h3 : (Cond.initialized mi.1.cls).before a A.U = true := mvw _ hinit a
  have h4 : A.cells + (headSpec (xcode mi :: lw_all) (xrm d mc ms)).room.cells ≤ R.cells := hp.1
  have h5 : A.slots + (headSpec (xcode mi :: lw_all) (xrm d mc ms)).room.slots ≤ R.slots := hp.2.1
  have hPc : xPc g av A0 a (A.U.calling f mk a) := by
    obtain ⟨q1, q2, q3, q4⟩ := hp.2.2
    exact ⟨q1, q2.frames rfl rfl, q3, q4⟩
  obtain ⟨U, Ls, c0, s0⟩ := A
  dsimp only [Pt.U, Pt.locs, Pt.cells, Pt.slots] at h1 h2 h3 h4 h5 X hn hPc ⊢
  obtain ⟨mk9, methY, cY, hn9, hmY, hcY, -, hlY, -, -, -, -⟩ := xcode_spec h2
  cases hn.symm.trans hn9
  obtain ⟨kY, hkY, -⟩ := className_of_methodNamed hn
  have hinitY : kY.init = .initialized := Cond.initialized_spec (findClass_of_methodNamed hn) hkY h3
  have h : At U f.method c below := by rw [hg]; exact X.here
  have hlocals9 : 8 + (mi.2.2.1 + 11) + (headSpec (xcode mi :: lw_all) (xrm d mc ms)).room.locals ≤ R.locals := hlocals
  have happ : (headSpec (xcode mi :: lw_all) (xrm d mc ms)).appliesLoose mi.1 e.platform (U.calling f mk a) = true :=
    Spec.appliesLoose_calling (g := f) h hdg hn hkY hinitY
      (X.room_calling (g := f) (R' := (headSpec (xcode mi :: lw_all) (xrm d mc ms)).room) hsize hmY hcY hframes (by rw [hlY]; omega) h4 h5) h1
  obtain ⟨mid, hmid⟩ := h.above
  have hfr : (U.setTop f).frames = (.java f :: mid) ++ below := by rw [State.frames_setTop' f h.top, hmid]; rfl
  obtain ⟨o9, s₂, hsteps, -, hend, hq⟩ := Steps.callFree hM p X.admits X.cas X.clock (acts := []) hfr happ hPc trivial
  have hq' : xQm g o A' mc ms a (U.calling f mk a) o9 s₂ := hq
  rw [State.frames_setTop' f h.top] at hend
  obtain ⟨g₀, hg0⟩ := Option.isSome_iff_exists.mp h.top
  obtain ⟨r, hr⟩ := State.topJava?_eq_some.mp hg0
  have hr' : (({ U with heap := s₂.heap, slotsUsed := s₂.slotsUsed } : State).setVm s₂.vm).frames = .java g₀ :: r := hr
  obtain ⟨rfl, j1, j2, j3, hW₂, L, hL, hsm⟩ := hq'
  obtain ⟨e2, q2, q3, q4, q5, q6⟩ := id hsm
  have e3 : s₂ = ({ (U.calling f mk a).setFrames s₂.frames with heap := s₂.heap, slotsUsed := s₂.slotsUsed } : State).setVm s₂.vm := by
    have : s₂ = ({ s₂ with vm := (U.calling f mk a).vm } : State).setVm s₂.vm := rfl
    rw [e2] at this
    exact this
  have hW' : U.WarmedH s₂.vm := hW₂
  have hsame : U.sameButNew ({ U with heap := s₂.heap, slotsUsed := s₂.slotsUsed } : State) L mc ms := by
    refine ⟨?_, q2, q3, q4, q5, q6⟩
    obtain ⟨t, ht, -⟩ := State.frames_cons hr
    show ({ U with heap := s₂.heap, slotsUsed := s₂.slotsUsed } : State) = { U.setFrames U.frames with heap := s₂.heap, slotsUsed := s₂.slotsUsed }
    rw [State.setFrames_self ht]
  subst hg
  have XX : Stand p g.1 e R s f.method sargs below meth c (({ U with heap := s₂.heap, slotsUsed := s₂.slotsUsed } : State).setVm s₂.vm) (Ls ++ L) (c0 + mc) (s0 + ms) := ⟨X.admits, X.cas, X.clock, X.frames, X.room, X.hears, X.method, X.code, (X.here.setHeapUsed s₂.heap s₂.slotsUsed).setVm hW'.alike, X.tail, State.WarmedH.trans X.warmed hW', X.limits, X.bytes, X.same.trans (hsame.setVm s.vm)⟩
  have haft : xAft g A' mc ms ⟨U, Ls, c0, s0⟩ ⟨(({ U with heap := s₂.heap, slotsUsed := s₂.slotsUsed } : State).setVm s₂.vm), Ls ++ L, c0 + mc, s0 + ms⟩ := ⟨j1, j2, j3, rfl, rfl, L, rfl, hL⟩
  rcases hout with ⟨v, rfl⟩ | ⟨q, rfl⟩
  · obtain ⟨c₂, i₂, len₂, hc₂, hd₂, hf₂⟩ := hend
    have hcc : c₂ = c := by
      have h1 : s₂.code? f.method = U.code? f.method := by
        rw [State.code?_eq, State.code?_eq, hW'.alike.method?]
      exact Option.some.inj (hc₂.symm.trans (h1.trans h.code))
    subst hcc
    have hlen : len₂ = len := by rw [hdg] at hd₂; cases hd₂; rfl
    subst hlen
    have hs₂ : s₂ = (({ U with heap := s₂.heap, slotsUsed := s₂.slotsUsed } : State).setVm s₂.vm).setTop { f with pc := f.pc + len₂, stack := v.toList ++ f.stack } := by
      refine e3.trans ?_
      rw [hf₂, State.calling_eq h.top, State.setFrames_setFrames, State.setTop_of_frames _ hr', hr]
      rfl
    refine Or.inl ⟨v, _, XX, ⟨rfl, haft⟩, ?_⟩
    show Steps p.tables e below _ ((({ U with heap := s₂.heap, slotsUsed := s₂.slotsUsed } : State).setVm s₂.vm).setTop { f with pc := f.pc + len₂, stack := v.toList ++ f.stack })
    rw [← hs₂]
    exact hsteps
  · have hf₂ : s₂.frames = .throwing q :: .java f :: U.frames.tail := hend
    have hs₂ : s₂ = ((({ U with heap := s₂.heap, slotsUsed := s₂.slotsUsed } : State).setVm s₂.vm).setTop f).pushFrame (.throwing q) := by
      refine e3.trans ?_
      rw [hf₂, State.calling_eq h.top, State.setFrames_setFrames, State.pushFrame, State.frames_setTop _ hr', State.setTop_of_frames _ hr', State.setFrames_setFrames, hr]
      rfl
    refine Or.inr ⟨q, _, XX, ⟨rfl, haft⟩, ?_⟩
    show Steps p.tables e below _ (((({ U with heap := s₂.heap, slotsUsed := s₂.slotsUsed } : State).setVm s₂.vm).setTop f).pushFrame (.throwing q))
    rw [← hs₂]
    exact hsteps
theorem x_toBack {l : Launch} {R : Room} {p : Program} {e : Env} {below : List Frame} {s : State} {sargs : Array Value} {y : MethodName} {len W9 : Nat} {Pre : Pt → Array Value → Prop} {Post : Pt → Array Value → Option Value → Pt → Prop} {PostX : Pt → Array Value → Addr → Pt → Prop} (h : vx_Back l R p e below s sargs y len W9 Pre Post PostX) (hx : ∀ A a q B, ¬ PostX A a q B) : Back l R p e below s sargs y len W9 Pre Post := by
  intro m meth c A f ig mk a X hg hsize hdg hW hn hp
  rcases h m meth c A f ig mk a X hg hsize hdg hW hn hp with k | ⟨q, B, -, hq, -⟩
  · exact k
  · exact absurd hq (hx _ _ _ _)
/-- what follows a call -/
def xAfter (g : xG) (mi : xM) (d pc pc' : Nat) (L : List (Option Value)) (st : List Value) (Q : Outcome → xA → Prop) (o : Outcome) (A' : xA) : Prop := match o with
  | .returned v => xW g mi d pc' L (v.toList ++ st) A' Q
  | .threw q => xX g mi d pc L q A' Q
section XCALL
variable {p : Program} {l : Launch} {e : Env} {R : Room} {s : State} {m : MethodId} {args : Array Value} {below : List Frame} {meth : Method} {c : Code} {T : State} {locs : List Loc} {cells slots : Nat} {mj : xM} {own C : String} {index : Nat}
theorem x_callS (X : Stand p l e R s m args below meth c T locs cells slots) (hexec : p.tables.exec = Jvm.exec)
    (hown : s.vm.findClass own = some m.cls) (hlink : (Cond.methodLink own index mj.1).before args s = true) (hstat : (Cond.static mj.1).before args s = true) (hinit : (Cond.initialized mj.1.cls).before args s = true)
    (hcode : (xcode mj).before args s = true) (hy : mj.1.cls ≠ "java/lang/invoke/MethodHandle" ∧ mj.1.cls ≠ "java/lang/invoke/VarHandle")
    {Pre : Pt → Array Value → Prop} {Post : Pt → Array Value → Option Value → Pt → Prop} {PostX : Pt → Array Value → Addr → Pt → Prop} (hK : vx_Back l R p e below s args mj.1 3 8 Pre Post PostX)
    {f : JFrame} (hg : f.method = m) (hsize : f.locals.size = c.maxLocals) {argsL rest : List Value} (hlen : ∀ sig, parseMethodDescriptor mj.1.desc = some sig → argsL.length = sig.parameters.length)
    (hstack : f.stack = argsL.reverse ++ rest) (hW : 2 * f.monitorRoom + (rest.map fun v => v.category).sum ≤ 8) (hdg : decode c.code f.pc = .ok (.invokestatic index, 3))
    (hpre : ∀ vm₁, s.WarmedH vm₁ → Pre ⟨T.setVm vm₁, locs, cells, slots⟩ argsL.toArray) :
    (∃ (v : Option Value) (vm₁ : Vm) (B : Pt), s.WarmedH vm₁ ∧ Stand p l e R s m args below meth c B.U B.locs B.cells B.slots ∧ Post ⟨T.setVm vm₁, locs, cells, slots⟩ (argsL).toArray v B ∧
      ∀ target, Steps p.tables e below (B.U.setTop { f with pc := f.pc + 3, stack := v.toList ++ rest }) target → Steps p.tables e below (T.setTop f) target) ∨
    (∃ (q : Addr) (vm₁ : Vm) (B : Pt), s.WarmedH vm₁ ∧ Stand p l e R s m args below meth c B.U B.locs B.cells B.slots ∧ PostX ⟨T.setVm vm₁, locs, cells, slots⟩ (argsL).toArray q B ∧
      Steps p.tables e below (T.setTop f) ((B.U.setTop { f with stack := rest }).pushFrame (.throwing q))) := by
  obtain ⟨mk, methM, cM, hnamed, hmethM, -, -, -, -, -, -, hsigM⟩ := xcode_spec hcode
  have hstatic : methM.isStatic = true := Cond.static_spec hnamed hmethM hstat
  obtain ⟨kP, hkP, -⟩ := className_of_methodNamed hnamed
  have hinitP : kP.init = .initialized := Cond.initialized_spec (findClass_of_methodNamed hnamed) hkP hinit
  obtain ⟨vm₁, X₁, hstep₁⟩ := X.invokestatic hexec hown hlink hnamed hmethM hstatic hkP hinitP hy (g := f) hg (argsL := argsL) (rest := rest) (hlen _ hsigM) hstack hdg
  rcases hK m meth c ⟨T.setVm vm₁, locs, cells, slots⟩ { f with stack := rest } (.invokestatic index) mk argsL.toArray X₁ hg hsize hdg hW (X₁.named hnamed) (hpre vm₁ X₁.warmed) with ⟨v, B, X', hpost, hsteps⟩ | ⟨q, B, X', hpost, hsteps⟩
  · exact Or.inl ⟨v, vm₁, B, X₁.warmed, X', hpost, fun target h => hstep₁ _ fun acts => by rw [doInvoke_state]; exact hsteps.trans h⟩
  · exact Or.inr ⟨q, vm₁, B, X₁.warmed, X', hpost, hstep₁ _ fun acts => by rw [doInvoke_state]; exact hsteps⟩
theorem x_callV (X : Stand p l e R s m args below meth c T locs cells slots) (hexec : p.tables.exec = Jvm.exec)
    (hown : s.vm.findClass own = some m.cls) (hlink : (Cond.methodLink own index mj.1).before args s = true) (hinst : (Cond.instanceMethod mj.1).before args s = true) (hsel : (Cond.selects C mj.1 mj.1).before args s = true)
    (hcode : (xcode mj).before args s = true) (hy : mj.1.cls ≠ "java/lang/invoke/MethodHandle" ∧ mj.1.cls ≠ "java/lang/invoke/VarHandle")
    {Pre : Pt → Array Value → Prop} {Post : Pt → Array Value → Option Value → Pt → Prop} {PostX : Pt → Array Value → Addr → Pt → Prop} (hK : vx_Back l R p e below s args mj.1 3 8 Pre Post PostX)
    {b : Addr} {cellB : Cell} (hcell : T.heap[b]? = some cellB) (hobj : cellB.vm.isStatics = false) (hcls : s.vm.findClass C = some cellB.cls)
    {f : JFrame} (hg : f.method = m) (hsize : f.locals.size = c.maxLocals) {argsL rest : List Value} (hlen : ∀ sig, parseMethodDescriptor mj.1.desc = some sig → argsL.length = sig.parameters.length)
    (hstack : f.stack = argsL.reverse ++ .ref b :: rest) (hW : 2 * f.monitorRoom + (rest.map fun v => v.category).sum ≤ 8) (hdg : decode c.code f.pc = .ok (.invokevirtual index, 3))
    (hpre : ∀ vm₁, s.WarmedH vm₁ → Pre ⟨T.setVm vm₁, locs, cells, slots⟩ (Value.ref b :: argsL).toArray) :
    (∃ (v : Option Value) (vm₁ : Vm) (B : Pt), s.WarmedH vm₁ ∧ Stand p l e R s m args below meth c B.U B.locs B.cells B.slots ∧ Post ⟨T.setVm vm₁, locs, cells, slots⟩ (Value.ref b :: argsL).toArray v B ∧
      ∀ target, Steps p.tables e below (B.U.setTop { f with pc := f.pc + 3, stack := v.toList ++ rest }) target → Steps p.tables e below (T.setTop f) target) ∨
    (∃ (q : Addr) (vm₁ : Vm) (B : Pt), s.WarmedH vm₁ ∧ Stand p l e R s m args below meth c B.U B.locs B.cells B.slots ∧ PostX ⟨T.setVm vm₁, locs, cells, slots⟩ (Value.ref b :: argsL).toArray q B ∧
      Steps p.tables e below (T.setTop f) ((B.U.setTop { f with stack := rest }).pushFrame (.throwing q))) := by
  obtain ⟨mk, methM, hnamed, hmethM, hstM, habM⟩ := Cond.instanceMethod_spec hinst
  obtain ⟨mk9, methM', cM, hnamed9, hmethM', -, -, -, -, -, -, hsigM⟩ := xcode_spec hcode
  cases hnamed.symm.trans hnamed9
  cases hmethM.symm.trans hmethM'
  obtain ⟨c2, r2, m2, q1, q2, q3, q4, kP, hkP, hkPi⟩ := Cond.selects_spec hsel
  cases hcls.symm.trans q1
  cases (State.methodFound?_of_named hnamed hy).symm.trans q2
  cases hnamed.symm.trans q3
  have hselP : selectMethod e.platform s.vm cellB.cls mk = .method mk := by rw [Launch.admits_selectMethod X.admits]; exact q4
  obtain ⟨vm₁, X₁, hstep₁⟩ := X.invokevirtual hexec hown hlink hnamed hmethM hstM hkP hkPi hy (a := b) (cell := cellB) hcell
    (fun z h => by rw [h] at hobj; cases hobj) hselP hmethM habM hkP hkPi (g := f) hg (argsL := argsL) (rest := rest) (hlen _ hsigM) hstack hdg
  rcases hK m meth c ⟨T.setVm vm₁, locs, cells, slots⟩ { f with stack := rest } (.invokevirtual index) mk (Value.ref b :: argsL).toArray X₁ hg hsize hdg hW (X₁.named hnamed) (hpre vm₁ X₁.warmed) with ⟨v, B, X', hpost, hsteps⟩ | ⟨q, B, X', hpost, hsteps⟩
  · exact Or.inl ⟨v, vm₁, B, X₁.warmed, X', hpost, fun target h => hstep₁ _ fun acts => by rw [doInvoke_state]; exact hsteps.trans h⟩
  · exact Or.inr ⟨q, vm₁, B, X₁.warmed, X', hpost, hstep₁ _ fun acts => by rw [doInvoke_state]; exact hsteps⟩
theorem x_callI (X : Stand p l e R s m args below meth c T locs cells slots) (hexec : p.tables.exec = Jvm.exec)
    (hown : s.vm.findClass own = some m.cls) (hy1 : mj.1.name = "<init>") (hlink : (Cond.methodLink own index mj.1).before args s = true) (hinst : (Cond.instanceMethod mj.1).before args s = true)
    (hcode : (Cond.code mj.1 mj.2.1 mj.2.2.1 none).before args s = true) (hy : mj.1.cls ≠ "java/lang/invoke/MethodHandle" ∧ mj.1.cls ≠ "java/lang/invoke/VarHandle")
    {Pre : Pt → Array Value → Prop} {Post : Pt → Array Value → Option Value → Pt → Prop} {PostX : Pt → Array Value → Addr → Pt → Prop} (hK : vx_Back l R p e below s args mj.1 3 8 Pre Post PostX)
    {f : JFrame} (hg : f.method = m) (hsize : f.locals.size = c.maxLocals) {argsL rest : List Value} (hlen : ∀ sig, parseMethodDescriptor mj.1.desc = some sig → argsL.length = sig.parameters.length) {b : Addr}
    (hstack : f.stack = argsL.reverse ++ .ref b :: rest) (hW : 2 * f.monitorRoom + (rest.map fun v => v.category).sum ≤ 8) (hdg : decode c.code f.pc = .ok (.invokespecial index, 3))
    (hpre : ∀ vm₁, s.WarmedH vm₁ → Pre ⟨T.setVm vm₁, locs, cells, slots⟩ (Value.ref b :: argsL).toArray) :
    (∃ (v : Option Value) (vm₁ : Vm) (B : Pt), s.WarmedH vm₁ ∧ Stand p l e R s m args below meth c B.U B.locs B.cells B.slots ∧ Post ⟨T.setVm vm₁, locs, cells, slots⟩ (Value.ref b :: argsL).toArray v B ∧
      ∀ target, Steps p.tables e below (B.U.setTop { f with pc := f.pc + 3, stack := v.toList ++ rest }) target → Steps p.tables e below (T.setTop f) target) ∨
    (∃ (q : Addr) (vm₁ : Vm) (B : Pt), s.WarmedH vm₁ ∧ Stand p l e R s m args below meth c B.U B.locs B.cells B.slots ∧ PostX ⟨T.setVm vm₁, locs, cells, slots⟩ (Value.ref b :: argsL).toArray q B ∧
      Steps p.tables e below (T.setTop f) ((B.U.setTop { f with stack := rest }).pushFrame (.throwing q))) := by
  subst hg
  have hpl : e.platform.magicAccessors = ({} : Platform).magicAccessors := by rw [X.admits.platform]
  obtain ⟨mk, methM, cM, kP, vm₁, hnamed, hmethM, hcodeM, -, hlocalsM, -, hkP, -, hW₁, hstep₁⟩ := Steps.initColdArgs (e := e) X.here hexec X.warmed hpl hown hy1 hy hlink hinst hcode (f := f) rfl hlen hstack hdg
  have X₁ := X.noted hW₁
  rcases hK f.method meth c ⟨T.setVm vm₁, locs, cells, slots⟩ { f with stack := rest } (.invokespecial index) mk (Value.ref b :: argsL).toArray X₁ rfl hsize hdg hW (X₁.named hnamed) (hpre vm₁ X₁.warmed) with ⟨v, B, X', hpost, hsteps⟩ | ⟨q, B, X', hpost, hsteps⟩
  · exact Or.inl ⟨v, vm₁, B, X₁.warmed, X', hpost, fun target h => hstep₁ _ fun acts => by rw [doInvoke_state]; exact hsteps.trans h⟩
  · exact Or.inr ⟨q, vm₁, B, X₁.warmed, X', hpost, hstep₁ _ fun acts => by rw [doInvoke_state]; exact hsteps⟩
theorem x_callSN {host : String} (X : Stand p l e R s m args below meth c T locs cells slots) (hexec : p.tables.exec = Jvm.exec)
    (hown : s.vm.findClass own = some m.cls) (hlink : (Cond.methodLinkNest own index mj.1 host).before args s = true) (hstat : (Cond.static mj.1).before args s = true) (hinit : (Cond.initialized mj.1.cls).before args s = true)
    (hcode : (xcode mj).before args s = true) (hy : mj.1.cls ≠ "java/lang/invoke/MethodHandle" ∧ mj.1.cls ≠ "java/lang/invoke/VarHandle")
    {Pre : Pt → Array Value → Prop} {Post : Pt → Array Value → Option Value → Pt → Prop} {PostX : Pt → Array Value → Addr → Pt → Prop} (hK : vx_Back l R p e below s args mj.1 3 8 Pre Post PostX)
    {f : JFrame} (hg : f.method = m) (hsize : f.locals.size = c.maxLocals) {argsL rest : List Value} (hlen : ∀ sig, parseMethodDescriptor mj.1.desc = some sig → argsL.length = sig.parameters.length)
    (hstack : f.stack = argsL.reverse ++ rest) (hW : 2 * f.monitorRoom + (rest.map fun v => v.category).sum ≤ 8) (hdg : decode c.code f.pc = .ok (.invokestatic index, 3))
    (hpre : ∀ vm₁, s.WarmedH vm₁ → Pre ⟨T.setVm vm₁, locs, cells, slots⟩ argsL.toArray) :
    (∃ (v : Option Value) (vm₁ : Vm) (B : Pt), s.WarmedH vm₁ ∧ Stand p l e R s m args below meth c B.U B.locs B.cells B.slots ∧ Post ⟨T.setVm vm₁, locs, cells, slots⟩ (argsL).toArray v B ∧
      ∀ target, Steps p.tables e below (B.U.setTop { f with pc := f.pc + 3, stack := v.toList ++ rest }) target → Steps p.tables e below (T.setTop f) target) ∨
    (∃ (q : Addr) (vm₁ : Vm) (B : Pt), s.WarmedH vm₁ ∧ Stand p l e R s m args below meth c B.U B.locs B.cells B.slots ∧ PostX ⟨T.setVm vm₁, locs, cells, slots⟩ (argsL).toArray q B ∧
      Steps p.tables e below (T.setTop f) ((B.U.setTop { f with stack := rest }).pushFrame (.throwing q))) := by
  obtain ⟨mk, methM, cM, hnamed, hmethM, -, -, -, -, -, -, hsigM⟩ := xcode_spec hcode
  have hstatic : methM.isStatic = true := Cond.static_spec hnamed hmethM hstat
  obtain ⟨kP, hkP, -⟩ := className_of_methodNamed hnamed
  have hinitP : kP.init = .initialized := Cond.initialized_spec (findClass_of_methodNamed hnamed) hkP hinit
  obtain ⟨vm₁, X₁, hstep₁⟩ := X.invokestaticNest hexec hown hlink hnamed hmethM hstatic hkP hinitP hy (g := f) hg (argsL := argsL) (rest := rest) (hlen _ hsigM) hstack hdg
  rcases hK m meth c ⟨T.setVm vm₁, locs, cells, slots⟩ { f with stack := rest } (.invokestatic index) mk argsL.toArray X₁ hg hsize hdg hW (X₁.named hnamed) (hpre vm₁ X₁.warmed) with ⟨v, B, X', hpost, hsteps⟩ | ⟨q, B, X', hpost, hsteps⟩
  · exact Or.inl ⟨v, vm₁, B, X₁.warmed, X', hpost, fun target h => hstep₁ _ fun acts => by rw [doInvoke_state]; exact hsteps.trans h⟩
  · exact Or.inr ⟨q, vm₁, B, X₁.warmed, X', hpost, hstep₁ _ fun acts => by rw [doInvoke_state]; exact hsteps⟩
theorem x_callVN {host : String} (X : Stand p l e R s m args below meth c T locs cells slots) (hexec : p.tables.exec = Jvm.exec)
    (hown : s.vm.findClass own = some m.cls) (hlink : (Cond.methodLinkNest own index mj.1 host).before args s = true) (hinst : (Cond.instanceMethod mj.1).before args s = true) (hsel : (Cond.selects C mj.1 mj.1).before args s = true)
    (hcode : (xcode mj).before args s = true) (hy : mj.1.cls ≠ "java/lang/invoke/MethodHandle" ∧ mj.1.cls ≠ "java/lang/invoke/VarHandle")
    {Pre : Pt → Array Value → Prop} {Post : Pt → Array Value → Option Value → Pt → Prop} {PostX : Pt → Array Value → Addr → Pt → Prop} (hK : vx_Back l R p e below s args mj.1 3 8 Pre Post PostX)
    {b : Addr} {cellB : Cell} (hcell : T.heap[b]? = some cellB) (hobj : cellB.vm.isStatics = false) (hcls : s.vm.findClass C = some cellB.cls)
    {f : JFrame} (hg : f.method = m) (hsize : f.locals.size = c.maxLocals) {argsL rest : List Value} (hlen : ∀ sig, parseMethodDescriptor mj.1.desc = some sig → argsL.length = sig.parameters.length)
    (hstack : f.stack = argsL.reverse ++ .ref b :: rest) (hW : 2 * f.monitorRoom + (rest.map fun v => v.category).sum ≤ 8) (hdg : decode c.code f.pc = .ok (.invokevirtual index, 3))
    (hpre : ∀ vm₁, s.WarmedH vm₁ → Pre ⟨T.setVm vm₁, locs, cells, slots⟩ (Value.ref b :: argsL).toArray) :
    (∃ (v : Option Value) (vm₁ : Vm) (B : Pt), s.WarmedH vm₁ ∧ Stand p l e R s m args below meth c B.U B.locs B.cells B.slots ∧ Post ⟨T.setVm vm₁, locs, cells, slots⟩ (Value.ref b :: argsL).toArray v B ∧
      ∀ target, Steps p.tables e below (B.U.setTop { f with pc := f.pc + 3, stack := v.toList ++ rest }) target → Steps p.tables e below (T.setTop f) target) ∨
    (∃ (q : Addr) (vm₁ : Vm) (B : Pt), s.WarmedH vm₁ ∧ Stand p l e R s m args below meth c B.U B.locs B.cells B.slots ∧ PostX ⟨T.setVm vm₁, locs, cells, slots⟩ (Value.ref b :: argsL).toArray q B ∧
      Steps p.tables e below (T.setTop f) ((B.U.setTop { f with stack := rest }).pushFrame (.throwing q))) := by
  obtain ⟨mk, methM, hnamed, hmethM, hstM, habM⟩ := Cond.instanceMethod_spec hinst
  obtain ⟨mk9, methM', cM, hnamed9, hmethM', -, -, -, -, -, -, hsigM⟩ := xcode_spec hcode
  cases hnamed.symm.trans hnamed9
  cases hmethM.symm.trans hmethM'
  obtain ⟨c2, r2, m2, q1, q2, q3, q4, kP, hkP, hkPi⟩ := Cond.selects_spec hsel
  cases hcls.symm.trans q1
  cases (State.methodFound?_of_named hnamed hy).symm.trans q2
  cases hnamed.symm.trans q3
  have hselP : selectMethod e.platform s.vm cellB.cls mk = .method mk := by rw [Launch.admits_selectMethod X.admits]; exact q4
  obtain ⟨vm₁, X₁, hstep₁⟩ := X.invokevirtualNest hexec hown hlink hnamed hmethM hstM hkP hkPi hy (a := b) (cell := cellB) hcell
    (fun z h => by rw [h] at hobj; cases hobj) hselP hmethM habM hkP hkPi (g := f) hg (argsL := argsL) (rest := rest) (hlen _ hsigM) hstack hdg
  rcases hK m meth c ⟨T.setVm vm₁, locs, cells, slots⟩ { f with stack := rest } (.invokevirtual index) mk (Value.ref b :: argsL).toArray X₁ hg hsize hdg hW (X₁.named hnamed) (hpre vm₁ X₁.warmed) with ⟨v, B, X', hpost, hsteps⟩ | ⟨q, B, X', hpost, hsteps⟩
  · exact Or.inl ⟨v, vm₁, B, X₁.warmed, X', hpost, fun target h => hstep₁ _ fun acts => by rw [doInvoke_state]; exact hsteps.trans h⟩
  · exact Or.inr ⟨q, vm₁, B, X₁.warmed, X', hpost, hstep₁ _ fun acts => by rw [doInvoke_state]; exact hsteps⟩
theorem x_callIN {host : String} (X : Stand p l e R s m args below meth c T locs cells slots) (hexec : p.tables.exec = Jvm.exec)
    (hown : s.vm.findClass own = some m.cls) (hy1 : mj.1.name = "<init>") (hlink : (Cond.methodLinkNest own index mj.1 host).before args s = true) (hinst : (Cond.instanceMethod mj.1).before args s = true)
    (hcode : (Cond.code mj.1 mj.2.1 mj.2.2.1 none).before args s = true) (hy : mj.1.cls ≠ "java/lang/invoke/MethodHandle" ∧ mj.1.cls ≠ "java/lang/invoke/VarHandle")
    {Pre : Pt → Array Value → Prop} {Post : Pt → Array Value → Option Value → Pt → Prop} {PostX : Pt → Array Value → Addr → Pt → Prop} (hK : vx_Back l R p e below s args mj.1 3 8 Pre Post PostX)
    {f : JFrame} (hg : f.method = m) (hsize : f.locals.size = c.maxLocals) {argsL rest : List Value} (hlen : ∀ sig, parseMethodDescriptor mj.1.desc = some sig → argsL.length = sig.parameters.length) {b : Addr}
    (hstack : f.stack = argsL.reverse ++ .ref b :: rest) (hW : 2 * f.monitorRoom + (rest.map fun v => v.category).sum ≤ 8) (hdg : decode c.code f.pc = .ok (.invokespecial index, 3))
    (hpre : ∀ vm₁, s.WarmedH vm₁ → Pre ⟨T.setVm vm₁, locs, cells, slots⟩ (Value.ref b :: argsL).toArray) :
    (∃ (v : Option Value) (vm₁ : Vm) (B : Pt), s.WarmedH vm₁ ∧ Stand p l e R s m args below meth c B.U B.locs B.cells B.slots ∧ Post ⟨T.setVm vm₁, locs, cells, slots⟩ (Value.ref b :: argsL).toArray v B ∧
      ∀ target, Steps p.tables e below (B.U.setTop { f with pc := f.pc + 3, stack := v.toList ++ rest }) target → Steps p.tables e below (T.setTop f) target) ∨
    (∃ (q : Addr) (vm₁ : Vm) (B : Pt), s.WarmedH vm₁ ∧ Stand p l e R s m args below meth c B.U B.locs B.cells B.slots ∧ PostX ⟨T.setVm vm₁, locs, cells, slots⟩ (Value.ref b :: argsL).toArray q B ∧
      Steps p.tables e below (T.setTop f) ((B.U.setTop { f with stack := rest }).pushFrame (.throwing q))) := by
  subst hg
  have hpl : e.platform.magicAccessors = ({} : Platform).magicAccessors := by rw [X.admits.platform]
  obtain ⟨mk, methM, cM, kP, vm₁, hnamed, hmethM, hcodeM, -, hlocalsM, -, hkP, -, hW₁, hstep₁⟩ := Steps.initColdArgsNest (e := e) X.here hexec X.warmed hpl hown hy1 hy hlink hinst hcode (f := f) rfl hlen hstack hdg
  have X₁ := X.noted hW₁
  rcases hK f.method meth c ⟨T.setVm vm₁, locs, cells, slots⟩ { f with stack := rest } (.invokespecial index) mk (Value.ref b :: argsL).toArray X₁ rfl hsize hdg hW (X₁.named hnamed) (hpre vm₁ X₁.warmed) with ⟨v, B, X', hpost, hsteps⟩ | ⟨q, B, X', hpost, hsteps⟩
  · exact Or.inl ⟨v, vm₁, B, X₁.warmed, X', hpost, fun target h => hstep₁ _ fun acts => by rw [doInvoke_state]; exact hsteps.trans h⟩
  · exact Or.inr ⟨q, vm₁, B, X₁.warmed, X', hpost, hstep₁ _ fun acts => by rw [doInvoke_state]; exact hsteps⟩
theorem x_callU {x : MethodName} {owner : String} (X : Stand p l e R s m args below meth c T locs cells slots) (hexec : p.tables.exec = Jvm.exec)
    (hown : s.vm.findClass own = some m.cls) (hlink : (Cond.methodLink own index x).before args s = true) (hsame : (Cond.sameMethod x.cls owner x.name x.desc).before args s = true)
    (hd0 : va_Decl s ⟨owner, x.name, x.desc⟩) (howner : owner ≠ "java/lang/invoke/MethodHandle" ∧ owner ≠ "java/lang/invoke/VarHandle")
    (hsel : (Cond.selects C x mj.1).before args s = true) (hinst : (Cond.instanceMethod mj.1).before args s = true)
    {Pre : Pt → Array Value → Prop} {Post : Pt → Array Value → Option Value → Pt → Prop} {PostX : Pt → Array Value → Addr → Pt → Prop} (hK : vx_Back l R p e below s args mj.1 3 8 Pre Post PostX)
    {b : Addr} {cellB : Cell} (hcell : T.heap[b]? = some cellB) (hobj : cellB.vm.isStatics = false) (hcls : s.vm.findClass C = some cellB.cls)
    {f : JFrame} (hg : f.method = m) (hsize : f.locals.size = c.maxLocals) {argsL rest : List Value} (hlen : ∀ sig, parseMethodDescriptor x.desc = some sig → argsL.length = sig.parameters.length)
    (hstack : f.stack = argsL.reverse ++ .ref b :: rest) (hW : 2 * f.monitorRoom + (rest.map fun v => v.category).sum ≤ 8) (hdg : decode c.code f.pc = .ok (.invokevirtual index, 3))
    (hpre : ∀ vm₁, s.WarmedH vm₁ → Pre ⟨T.setVm vm₁, locs, cells, slots⟩ (Value.ref b :: argsL).toArray) :
    (∃ (v : Option Value) (vm₁ : Vm) (B : Pt), s.WarmedH vm₁ ∧ Stand p l e R s m args below meth c B.U B.locs B.cells B.slots ∧ Post ⟨T.setVm vm₁, locs, cells, slots⟩ (Value.ref b :: argsL).toArray v B ∧
      ∀ target, Steps p.tables e below (B.U.setTop { f with pc := f.pc + 3, stack := v.toList ++ rest }) target → Steps p.tables e below (T.setTop f) target) ∨
    (∃ (q : Addr) (vm₁ : Vm) (B : Pt), s.WarmedH vm₁ ∧ Stand p l e R s m args below meth c B.U B.locs B.cells B.slots ∧ PostX ⟨T.setVm vm₁, locs, cells, slots⟩ (Value.ref b :: argsL).toArray q B ∧
      Steps p.tables e below (T.setTop f) ((B.U.setTop { f with stack := rest }).pushFrame (.throwing q))) := by
  obtain ⟨r0, r, hn, hrm, hstR, hsigR⟩ := hd0
  obtain ⟨cn, ck, r1, hcn, hck, hni, hf, hn1⟩ := Cond.sameMethod_found hsame
  cases hn.symm.trans hn1
  obtain ⟨mk, methM, hnamed, hmethM, -, habM⟩ := Cond.instanceMethod_spec hinst
  obtain ⟨c2, r2, m2, q1, q2, q3, q4, kP, hkP, hkPi⟩ := Cond.selects_spec hsel
  cases hcls.symm.trans q1
  cases hf.symm.trans q2
  cases hnamed.symm.trans q3
  have hselP : selectMethod e.platform s.vm cellB.cls r0 = .method mk := by rw [Launch.admits_selectMethod X.admits]; exact q4
  obtain ⟨vm₁, X₁, hstep₁⟩ := X.invokevirtualUp hexec hown hlink hsame howner hn hrm hstR (a := b) (cell := cellB) hcell
    (fun z h => by rw [h] at hobj; cases hobj) hselP hmethM habM hkP hkPi (g := f) hg (argsL := argsL) (rest := rest) (hlen _ hsigR) hstack hdg
  rcases hK m meth c ⟨T.setVm vm₁, locs, cells, slots⟩ { f with stack := rest } (.invokevirtual index) mk (Value.ref b :: argsL).toArray X₁ hg hsize hdg hW (X₁.named hnamed) (hpre vm₁ X₁.warmed) with ⟨v, B, X', hpost, hsteps⟩ | ⟨q, B, X', hpost, hsteps⟩
  · exact Or.inl ⟨v, vm₁, B, X₁.warmed, X', hpost, fun target h => hstep₁ _ fun acts => by rw [doInvoke_state]; exact hsteps.trans h⟩
  · exact Or.inr ⟨q, vm₁, B, X₁.warmed, X', hpost, hstep₁ _ fun acts => by rw [doInvoke_state]; exact hsteps⟩
theorem x_callF {x : MethodName} {count : Nat} (X : Stand p l e R s m args below meth c T locs cells slots) (hexec : p.tables.exec = Jvm.exec)
    (hown : s.vm.findClass own = some m.cls) (hlink : (Cond.methodLink own index x).before args s = true) (hF : va_Fw C x mj.1 s)
    (hsel : (Cond.selects C x mj.1).before args s = true) (hinst : (Cond.instanceMethod mj.1).before args s = true)
    (hx : x.cls ≠ "java/lang/invoke/MethodHandle" ∧ x.cls ≠ "java/lang/invoke/VarHandle")
    {Pre : Pt → Array Value → Prop} {Post : Pt → Array Value → Option Value → Pt → Prop} {PostX : Pt → Array Value → Addr → Pt → Prop} (hK : vx_Back l R p e below s args mj.1 5 8 Pre Post PostX)
    {b : Addr} {cellB : Cell} {kB : Class} (hcell : T.heap[b]? = some cellB) (hobj : cellB.vm.isStatics = false) (hcls : s.vm.findClass C = some cellB.cls) (hkB : s.vm.classes[cellB.cls]? = some kB)
    {f : JFrame} (hg : f.method = m) (hsize : f.locals.size = c.maxLocals) {argsL rest : List Value} (hlen : ∀ sig, parseMethodDescriptor x.desc = some sig → argsL.length = sig.parameters.length)
    (hstack : f.stack = argsL.reverse ++ .ref b :: rest) (hW : 2 * f.monitorRoom + (rest.map fun v => v.category).sum ≤ 8) (hdg : decode c.code f.pc = .ok (.invokeinterface index count, 5))
    (hpre : ∀ vm₁, s.WarmedH vm₁ → Pre ⟨T.setVm vm₁, locs, cells, slots⟩ (Value.ref b :: argsL).toArray) :
    (∃ (v : Option Value) (vm₁ : Vm) (B : Pt), s.WarmedH vm₁ ∧ Stand p l e R s m args below meth c B.U B.locs B.cells B.slots ∧ Post ⟨T.setVm vm₁, locs, cells, slots⟩ (Value.ref b :: argsL).toArray v B ∧
      ∀ target, Steps p.tables e below (B.U.setTop { f with pc := f.pc + 5, stack := v.toList ++ rest }) target → Steps p.tables e below (T.setTop f) target) ∨
    (∃ (q : Addr) (vm₁ : Vm) (B : Pt), s.WarmedH vm₁ ∧ Stand p l e R s m args below meth c B.U B.locs B.cells B.slots ∧ PostX ⟨T.setVm vm₁, locs, cells, slots⟩ (Value.ref b :: argsL).toArray q B ∧
      Steps p.tables e below (T.setTop f) ((B.U.setTop { f with stack := rest }).pushFrame (.throwing q))) := by
  have hdecl := va_any (A' := args) rfl hF.1
  have hface := va_any (A' := args) rfl hF.2.1
  have hpub := va_any (A' := args) rfl hF.2.2.1
  have hunh := va_any (A' := args) rfl hF.2.2.2.1
  have hcast := va_any (A' := args) rfl hF.2.2.2.2
  obtain ⟨r0, r, hn, hrm, hstR, hsigR⟩ := Cond.declares_spec hdecl
  obtain ⟨cL, kL, r1, hcL, hkL, hiL, hfoundL, hn1⟩ := Cond.interfaceMethod_spec hface
  cases hn.symm.trans hn1
  have hr0cls : r0.cls = cL := Option.some.inj ((findClass_of_methodNamed hn).symm.trans hcL)
  obtain ⟨hnameR, hdescR⟩ := name_of_methodNamed hn hrm
  obtain ⟨mk, methM, hnamed, hmethM, -, habM⟩ := Cond.instanceMethod_spec hinst
  obtain ⟨c2, r2, m2, q1, q2, q3, q4, -⟩ := Cond.selects_spec hsel
  cases hcls.symm.trans q1
  cases hfoundL.symm.trans q2
  cases hnamed.symm.trans q3
  have hselP : selectMethod e.platform s.vm cellB.cls r0 = .method mk := by rw [Launch.admits_selectMethod X.admits]; exact q4
  have hpubM : hasFlag methM.accessFlags Acc.public_ = true := Cond.publicMethod_spec hnamed hmethM hpub
  have hway : ((cellB.cls :: s.vm.superclasses cellB.cls).any fun k => (declaredIn s.vm r.name r.desc k).any fun (_, z) => z.isPrivate || z.isStatic) = false := by
    rw [hnameR, hdescR]; exact Cond.unhidden_spec hcls hunh
  obtain ⟨c3, t3, w1, w2, w3⟩ := Cond.castable_spec hcast
  cases hcls.symm.trans w1
  cases hcL.symm.trans w2
  obtain ⟨vm₁, X₁, hstep₁⟩ := X.invokeinterface hexec hown hlink hn hrm hstR (by rw [hr0cls]; exact hkL) hiL hx (a := b) (cell := cellB) (kcell := kB) hcell
    (fun z h => by rw [h] at hobj; cases hobj) hkB (by rw [hr0cls]; exact w3) hselP hmethM hway hpubM habM (g := f) hg (argsL := argsL) (rest := rest) (hlen _ hsigR) hstack hdg
  rcases hK m meth c ⟨T.setVm vm₁, locs, cells, slots⟩ { f with stack := rest } (.invokeinterface index count) mk (Value.ref b :: argsL).toArray X₁ hg hsize hdg hW (X₁.named hnamed) (hpre vm₁ X₁.warmed) with ⟨v, B, X', hpost, hsteps⟩ | ⟨q, B, X', hpost, hsteps⟩
  · exact Or.inl ⟨v, vm₁, B, X₁.warmed, X', hpost, fun target h => hstep₁ _ fun acts => by rw [doInvoke_state]; exact hsteps.trans h⟩
  · exact Or.inr ⟨q, vm₁, B, X₁.warmed, X', hpost, hstep₁ _ fun acts => by rw [doInvoke_state]; exact hsteps⟩
theorem x_callSU (X : Stand p l e R s m args below meth c T locs cells slots) (hexec : p.tables.exec = Jvm.exec)
    (hown : s.vm.findClass own = some m.cls) (hlink : (Cond.methodLink own index mj.1).before args s = true) (hsame : (Cond.sameMethod mj.1.cls mj.1.cls mj.1.name mj.1.desc).before args s = true) (hsup : (Cond.superclass own mj.1.cls).before args s = true)
    (hinst : (Cond.instanceMethod mj.1).before args s = true) (hcode : (xcode mj).before args s = true) (hno : mj.1.name ≠ "<init>")
    {Pre : Pt → Array Value → Prop} {Post : Pt → Array Value → Option Value → Pt → Prop} {PostX : Pt → Array Value → Addr → Pt → Prop} (hK : vx_Back l R p e below s args mj.1 3 8 Pre Post PostX)
    {b : Addr} {cellB : Cell} {kB : Class} (hcell : T.heap[b]? = some cellB) (hobj : cellB.vm.isStatics = false) (hkB : s.vm.classes[cellB.cls]? = some kB)
    {f : JFrame} (hg : f.method = m) (hsize : f.locals.size = c.maxLocals) {argsL rest : List Value} (hlen : ∀ sig, parseMethodDescriptor mj.1.desc = some sig → argsL.length = sig.parameters.length)
    (hstack : f.stack = argsL.reverse ++ .ref b :: rest) (hW : 2 * f.monitorRoom + (rest.map fun v => v.category).sum ≤ 8) (hdg : decode c.code f.pc = .ok (.invokespecial index, 3))
    (hpre : ∀ vm₁, s.WarmedH vm₁ → Pre ⟨T.setVm vm₁, locs, cells, slots⟩ (Value.ref b :: argsL).toArray) :
    (∃ (v : Option Value) (vm₁ : Vm) (B : Pt), s.WarmedH vm₁ ∧ Stand p l e R s m args below meth c B.U B.locs B.cells B.slots ∧ Post ⟨T.setVm vm₁, locs, cells, slots⟩ (Value.ref b :: argsL).toArray v B ∧
      ∀ target, Steps p.tables e below (B.U.setTop { f with pc := f.pc + 3, stack := v.toList ++ rest }) target → Steps p.tables e below (T.setTop f) target) ∨
    (∃ (q : Addr) (vm₁ : Vm) (B : Pt), s.WarmedH vm₁ ∧ Stand p l e R s m args below meth c B.U B.locs B.cells B.slots ∧ PostX ⟨T.setVm vm₁, locs, cells, slots⟩ (Value.ref b :: argsL).toArray q B ∧
      Steps p.tables e below (T.setTop f) ((B.U.setTop { f with stack := rest }).pushFrame (.throwing q))) := by
  obtain ⟨mk, methM, hnamed, hmethM, hstM, habM⟩ := Cond.instanceMethod_spec hinst
  obtain ⟨mk9, methM', cM, hnamed9, hmethM', -, -, -, -, -, -, hsigM⟩ := xcode_spec hcode
  cases hnamed.symm.trans hnamed9
  cases hmethM.symm.trans hmethM'
  obtain ⟨ps, dk, kp, hps, hdk, hkp, hsuper, -, -, hnid⟩ := Cond.superclass_spec hown hsup
  have hn : s.methodNamed? ⟨mj.1.cls, mj.1.name, mj.1.desc⟩ = some mk := hnamed
  have hpm : ps = mk.cls := Option.some.inj (hps.symm.trans (findClass_of_methodNamed hnamed))
  have hsub : s.vm.isSubclass ps mk.cls = true := by rw [hpm]; simp [Vm.isSubclass, Vm.isSubclassAux]
  obtain ⟨vm₁, X₁, hstep₁⟩ := X.invokespecialUp hexec hown hlink hsame hn hmethM hstM habM hno hdk hnid hps hsuper hsub (a := b) (cell := cellB) hcell
    (fun z h => by rw [h] at hobj; cases hobj) hkB (g := f) hg (argsL := argsL) (rest := rest) (hlen _ hsigM) hstack hdg
  rcases hK m meth c ⟨T.setVm vm₁, locs, cells, slots⟩ { f with stack := rest } (.invokespecial index) mk (Value.ref b :: argsL).toArray X₁ hg hsize hdg hW (X₁.named hnamed) (hpre vm₁ X₁.warmed) with ⟨v, B, X', hpost, hsteps⟩ | ⟨q, B, X', hpost, hsteps⟩
  · exact Or.inl ⟨v, vm₁, B, X₁.warmed, X', hpost, fun target h => hstep₁ _ (by rw [doInvoke_state]; exact hsteps.trans h)⟩
  · exact Or.inr ⟨q, vm₁, B, X₁.warmed, X', hpost, hstep₁ _ (by rw [doInvoke_state]; exact hsteps)⟩
end XCALL
/-- the machine's part of a call: from st0 on the operands, with what the callee owes, to pc2 or to a throw -/
def xStep (g : xG) (mi : xM) (pc pc' len : Nat) (L : List (Option Value)) (st0 st : List Value) (A : xA) (mj : xM) (av : List Value) : Prop :=
  ∀ (p : Program) (e : Env) (R : Room) (s : State) (m : MethodId) (args : Array Value) (below : List Frame) (meth : Method) (c : Code) (T : State) (locs : List Loc) (cells slots : Nat) (ls : Array Slot) (Pre : Pt → Array Value → Prop) (Post : Pt → Array Value → Option Value → Pt → Prop) (PostX : Pt → Array Value → Addr → Pt → Prop),
    xCx mi p s m meth c → xSW g s T.heap → xRep g A T.heap → xloc ls mi.2.2.1 L → Stand p g.1 e R s m args below meth c T locs cells slots → vx_Back g.1 R p e below s args mj.1 len 8 Pre Post PostX → (∀ vm₁, s.WarmedH vm₁ → Pre ⟨T.setVm vm₁, locs, cells, slots⟩ av.toArray) →
    (∃ (v : Option Value) (vm₁ : Vm) (B : Pt), s.WarmedH vm₁ ∧ Stand p g.1 e R s m args below meth c B.U B.locs B.cells B.slots ∧ Post ⟨T.setVm vm₁, locs, cells, slots⟩ av.toArray v B ∧
      ∀ target, Steps p.tables e below (B.U.setTop (F0 m pc' ls (v.toList ++ st))) target → Steps p.tables e below (T.setTop (F0 m pc ls st0)) target) ∨
    (∃ (q : Addr) (vm₁ : Vm) (B : Pt), s.WarmedH vm₁ ∧ Stand p g.1 e R s m args below meth c B.U B.locs B.cells B.slots ∧ PostX ⟨T.setVm vm₁, locs, cells, slots⟩ av.toArray q B ∧
      Steps p.tables e below (T.setTop (F0 m pc ls st0)) ((B.U.setTop (F0 m pc ls st)).pushFrame (.throwing q)))
/-- what is asked of any callee -/
def xOkM (mj : xM) : Prop := plainFor mj.1 = true ∧ mj.2.2.1 ≤ 45 ∧ xcode mj ∈ lw_all ∧ Cond.initialized mj.1.cls ∈ lw_all
theorem xW.call {g : xG} {mi mj : xM} {d d1 pc pc' len : Nat} {L : List (Option Value)} {st0 st av : List Value} {A : xA} {Q Q1 : Outcome → xA → Prop} (hm : xOkM mj) (hsl : (lg_sl av).length ≤ mj.2.2.1) (hd : d1 + 1 ≤ d) (hstep : xStep g mi pc pc' len L st0 st A mj av)
    (hc : xW g mj d1 0 (xpad mj.2.2.1 (xent av)) [] A Q1) (k : ∀ o A1, Q1 o A1 → xAfter g mi d pc pc' L st Q o A1) : xW g mi d pc L st0 A Q := by
  intro hok
  obtain ⟨o1, A1, ok1, le1, le2, out1, q1, go1⟩ := hc hok
  have k1 := k o1 A1 q1
  have hout : (∃ v, o1 = .returned v) ∨ ∃ q, o1 = .threw q := by
    rcases out1 with h | ⟨q, _, _, h, -⟩
    · exact Or.inl h
    · exact Or.inr ⟨q, h⟩
  have main : ∀ (p : Program) (e : Env) (R : Room) (s : State) (m : MethodId) (args : Array Value) (below : List Frame) (meth : Method) (c : Code) (locs : List Loc) (cells slots : Nat) (ls : Array Slot) (T : State), xCx mi p s m meth c → xSW g s T.heap → xRep g A T.heap → T.heap.size = A.2.1 → xloc ls mi.2.2.1 L → (∀ q ∈ locs, xbase g ≤ q.base) → cells + (A1.2.1 - A.2.1) ≤ R.cells → slots + (A1.2.2 - A.2.2) ≤ R.slots → d ≤ R.frames → 64 * d ≤ R.locals → Stand p g.1 e R s m args below meth c T locs cells slots →
      ∃ (U : State) (Lo : List Loc), Stand p g.1 e R s m args below meth c U (locs ++ Lo) (cells + (A1.2.1 - A.2.1)) (slots + (A1.2.2 - A.2.2)) ∧ (∀ q ∈ Lo, xbase g ≤ q.base) ∧ xRep g A1 U.heap ∧ U.heap.size = A1.2.1 ∧ (∀ q : Nat, q < xbase g → U.heap[q]? = T.heap[q]?) ∧
        ((∃ v, o1 = .returned v ∧ ∀ target, Steps p.tables e below (U.setTop (F0 m pc' ls (v.toList ++ st))) target → Steps p.tables e below (T.setTop (F0 m pc ls st0)) target) ∨ ∃ q, o1 = .threw q ∧ Steps p.tables e below (T.setTop (F0 m pc ls st0)) ((U.setTop (F0 m pc ls st)).pushFrame (.throwing q))) := by
    intro p e R s m args below meth c locs cells slots ls T hC hs hr hz hl hlo hc1 hs1 hd1 hd2 X
    have hK := x_back (R := R) (p := p) (e := e) (below := below) (s := s) (sargs := args) (len := len) hm.1 hsl go1 hout (Nat.le_trans hd hd1) (by have := hm.2.1; omega) hs.hts hm.2.2.1 hm.2.2.2
    rcases hstep p e R s m args below meth c T locs cells slots ls _ _ _ hC hs hr hl X hK (fun vm₁ hW₁ => ⟨hc1, hs1, rfl, hs.move (V := T.setVm vm₁) hW₁ hs.1 (fun _ _ => rfl), hr, hz⟩) with ⟨v, vm₁, B, hW₁, X', ⟨ho, a1, a2, a3, a4, a5, Lo, a6, a7⟩, st1⟩ | ⟨q, vm₁, B, hW₁, X', ⟨ho, a1, a2, a3, a4, a5, Lo, a6, a7⟩, st1⟩
    · have a3 : ∀ q : Nat, q < xbase g → B.U.heap[q]? = T.heap[q]? := a3
      have a4 : B.cells = cells + (A1.2.1 - A.2.1) := a4
      have a5 : B.slots = slots + (A1.2.2 - A.2.2) := a5
      have a6 : B.locs = locs ++ Lo := a6
      rw [a4, a5, a6] at X'
      exact ⟨B.U, Lo, X', a7, a1, a2, a3, Or.inl ⟨v, ho, st1⟩⟩
    · have a3 : ∀ q : Nat, q < xbase g → B.U.heap[q]? = T.heap[q]? := a3
      have a4 : B.cells = cells + (A1.2.1 - A.2.1) := a4
      have a5 : B.slots = slots + (A1.2.2 - A.2.2) := a5
      have a6 : B.locs = locs ++ Lo := a6
      rw [a4, a5, a6] at X'
      exact ⟨B.U, Lo, X', a7, a1, a2, a3, Or.inr ⟨q, ho, st1⟩⟩
  cases o1 with
  | returned v =>
    have k1 : xW g mi d pc' L (v.toList ++ st) A1 Q := k1
    obtain ⟨o, A', h1, h2, h3, h4, h5, h6⟩ := k1 ok1
    refine ⟨o, A', h1, Nat.le_trans le1 h2, Nat.le_trans le2 h3, h4, h5, ?_⟩
    intro p e R s m args below meth c H locs cells slots ls hC hs hr hz hl hlo hc1 hs1 hd1 hd2 T hT X
    subst hT
    obtain ⟨U, Lo, X', b1, b2, b3, b4, b5⟩ := main p e R s m args below meth c locs cells slots ls T hC hs hr hz hl hlo (by omega) (by omega) hd1 hd2 X
    rcases b5 with ⟨v', hv, st1⟩ | ⟨q, hq, -⟩
    · cases hv
      obtain ⟨t, s1, f1⟩ := h6 p e R s m args below meth c U.heap (locs ++ Lo) _ _ ls hC (hs.heap (by rw [b3]; exact ok1.1) b4) b2 b3 hl (fun q hq => (List.mem_append.mp hq).elim (hlo q) (b1 q)) (by omega) (by omega) hd1 hd2 U rfl X'
      rw [show cells + (A1.2.1 - A.2.1) + (A'.2.1 - A1.2.1) = cells + (A'.2.1 - A.2.1) by omega, show slots + (A1.2.2 - A.2.2) + (A'.2.2 - A1.2.2) = slots + (A'.2.2 - A.2.2) by omega] at f1
      exact ⟨t, st1 t s1, xFin.heap b4 t f1⟩
    · cases hq
  | threw q0 =>
    have k1 : xX g mi d pc L q0 A1 Q := k1
    obtain ⟨o, A', h1, h2, h3, h4, h5, h6⟩ := k1 ok1
    refine ⟨o, A', h1, Nat.le_trans le1 h2, Nat.le_trans le2 h3, h4, h5, ?_⟩
    intro p e R s m args below meth c H locs cells slots ls hC hs hr hz hl hlo hc1 hs1 hd1 hd2 T hT X
    subst hT
    obtain ⟨U, Lo, X', b1, b2, b3, b4, b5⟩ := main p e R s m args below meth c locs cells slots ls T hC hs hr hz hl hlo (by omega) (by omega) hd1 hd2 X
    rcases b5 with ⟨v', hv, -⟩ | ⟨q, hq, st1⟩
    · cases hv
    · cases hq
      obtain ⟨t, s1, f1⟩ := h6 p e R s m args below meth c U.heap (locs ++ Lo) _ _ ls st hC (hs.heap (by rw [b3]; exact ok1.1) b4) b2 b3 hl (fun q hq => (List.mem_append.mp hq).elim (hlo q) (b1 q)) (by omega) (by omega) hd1 hd2 U rfl X'
      rw [show cells + (A1.2.1 - A.2.1) + (A'.2.1 - A1.2.1) = cells + (A'.2.1 - A.2.1) by omega, show slots + (A1.2.2 - A.2.2) + (A'.2.2 - A1.2.2) = slots + (A'.2.2 - A.2.2) by omega] at f1
      exact ⟨t, st1.trans s1, xFin.heap b4 t f1⟩
/-! sites of calls: own class, entry, callee, how many parameters -/
def xNp (desc : String) (n : Nat) : Prop := (parseMethodDescriptor desc).map (fun d => d.parameters.length) = some n
theorem xNp.len {desc : String} {n : Nat} (h : xNp desc n) {av : List Value} (ha : av.length = n) : ∀ sig, parseMethodDescriptor desc = some sig → av.length = sig.parameters.length := fun sig hs => by
  unfold xNp at h
  rw [hs] at h
  rw [ha]
  exact (Option.some.inj h).symm
def xnoMH (c : String) : Prop := c ≠ "java/lang/invoke/MethodHandle" ∧ c ≠ "java/lang/invoke/VarHandle"
def xCS (own : String) (idx : Nat) (mj : xM) (n : Nat) : Prop := xOkM mj ∧ xNp mj.1.desc n ∧ xnoMH mj.1.cls ∧ Cond.static mj.1 ∈ lw_all ∧ (Cond.methodLink own idx mj.1 ∈ lw_all ∨ ∃ host : String, Cond.methodLinkNest own idx mj.1 host ∈ lw_tbl)
def xCV (own : String) (idx : Nat) (C : String) (mj : xM) (n : Nat) : Prop := xOkM mj ∧ Cond.instanceMethod mj.1 ∈ lw_all ∧
  ((xNp mj.1.desc n ∧ xnoMH mj.1.cls ∧ Cond.selects C mj.1 mj.1 ∈ lw_all ∧ (Cond.methodLink own idx mj.1 ∈ lw_all ∨ ∃ host : String, Cond.methodLinkNest own idx mj.1 host ∈ lw_tbl)) ∨
   ∃ (x : MethodName) (owner : String), xNp x.desc n ∧ xnoMH owner ∧ Cond.methodLink own idx x ∈ lw_all ∧ Cond.sameMethod x.cls owner x.name x.desc ∈ lw_all ∧ Cond.selects C x mj.1 ∈ lw_all ∧
     (Cond.declares ⟨owner, x.name, x.desc⟩ ∈ lw_tbl ∨ ∃ (b : ByteArray) (k : Nat) (r : Option FieldType), Cond.instanceMethod ⟨owner, x.name, x.desc⟩ ∈ lw_all ∧ Cond.code ⟨owner, x.name, x.desc⟩ b k r ∈ lw_all))
def xCF (own : String) (idx : Nat) (C : String) (mj : xM) (n : Nat) : Prop := xOkM mj ∧ Cond.instanceMethod mj.1 ∈ lw_all ∧ ∃ x : MethodName, xNp x.desc n ∧ xnoMH x.cls ∧ Cond.methodLink own idx x ∈ lw_all ∧ (C, x, mj.1) ∈ xifs ∧ Cond.selects C x mj.1 ∈ lw_all
def xCI (own : String) (idx : Nat) (mj : xM) (n : Nat) : Prop := xOkM mj ∧ mj.1.name = "<init>" ∧ Cond.code mj.1 mj.2.1 mj.2.2.1 none ∈ lw_all ∧ xNp mj.1.desc n ∧ xnoMH mj.1.cls ∧ Cond.instanceMethod mj.1 ∈ lw_all ∧ (Cond.methodLink own idx mj.1 ∈ lw_all ∨ ∃ host : String, Cond.methodLinkNest own idx mj.1 host ∈ lw_tbl)
def xCU (own : String) (idx : Nat) (mj : xM) (n : Nat) : Prop := xOkM mj ∧ mj.1.name ≠ "<init>" ∧ xNp mj.1.desc n ∧ Cond.instanceMethod mj.1 ∈ lw_all ∧ Cond.methodLink own idx mj.1 ∈ lw_all ∧ Cond.sameMethod mj.1.cls mj.1.cls mj.1.name mj.1.desc ∈ lw_all ∧ Cond.superclass own mj.1.cls ∈ lw_all
/-- room on the operands under a call -/
def xrs (st : List Value) : Prop := (st.map fun v => v.category).sum ≤ 8
section XSITE
variable {g : xG} {mi mj : xM} {d d1 pc idx : Nat} {L : List (Option Value)} {st av : List Value} {A : xA} {Q Q1 : Outcome → xA → Prop}
theorem x_cs {n : Nat} (hw : xCS mi.1.cls idx mj n) (hd : decode mi.2.1 pc = .ok (.invokestatic idx, 3)) (hc : xW g mj d1 0 (xpad mj.2.2.1 (xent av)) [] A Q1) (hsl : (lg_sl av).length ≤ mj.2.2.1) (hn : av.length = n) (hdd : d1 + 1 ≤ d) (hst : xrs st) {st0 : List Value} (h0 : st0 = av.reverse ++ st) (k : ∀ o A1, Q1 o A1 → xAfter g mi d pc (pc + 3) L st Q o A1) : xW g mi d pc L st0 A Q := by
  obtain ⟨hm, hnp, hmh, hsta, hlk⟩ := hw
  refine xW.call (len := 3) hm hsl hdd ?_ hc k
  intro p e R s m args below meth c T locs cells slots ls Pre Post PostX hC hs hr hl X hK hpre
  rcases hlk with h | ⟨host, h⟩
  · exact x_callS X hC.1 hC.2.2.2.2.2.1 (hs.hts _ h) (hs.hts _ hsta) (hs.hts _ hm.2.2.2) (hs.hts _ hm.2.2.1) hmh hK (f := F0 m pc ls st0) rfl (hl.1.trans hC.2.2.2.2.1.symm) (argsL := av) (rest := st) (hnp.len hn) h0 (lv_room hst) (by rw [hC.2.1]; exact hd) hpre
  · exact x_callSN X hC.1 hC.2.2.2.2.2.1 (hs.word h rfl) (hs.hts _ hsta) (hs.hts _ hm.2.2.2) (hs.hts _ hm.2.2.1) hmh hK (f := F0 m pc ls st0) rfl (hl.1.trans hC.2.2.2.2.1.symm) (argsL := av) (rest := st) (hnp.len hn) h0 (lv_room hst) (by rw [hC.2.1]; exact hd) hpre
theorem x_cv {n a ci : Nat} {fs : List Value} {q : vw_C} (hw : xCV mi.1.cls idx q.1 mj n) (hd : decode mi.2.1 pc = .ok (.invokevirtual idx, 3)) (ha : xAt g A a (.inr (ci, fs))) (hci : xcl[ci]? = some q) (hc : xW g mj d1 0 (xpad mj.2.2.1 (xent (.ref a :: av))) [] A Q1) (hsl : (lg_sl (.ref a :: av)).length ≤ mj.2.2.1) (hn : av.length = n) (hdd : d1 + 1 ≤ d) (hst : xrs st) {st0 : List Value} (h0 : st0 = av.reverse ++ .ref a :: st) (k : ∀ o A1, Q1 o A1 → xAfter g mi d pc (pc + 3) L st Q o A1) : xW g mi d pc L st0 A Q := by
  obtain ⟨hm, hinst, hk⟩ := hw
  refine xW.call (len := 3) hm hsl hdd ?_ hc k
  intro p e R s m args below meth c T locs cells slots ls Pre Post PostX hC hs hr hl X hK hpre
  obtain ⟨cellB, r1, r2, r3⟩ := x_recv hs hr ha hci
  rcases hk with ⟨hnp, hmh, hsel, h | ⟨host, h⟩⟩ | ⟨x, owner, hnp, hmh, h, hsm, hsel, hdc⟩
  · exact x_callV X hC.1 hC.2.2.2.2.2.1 (hs.hts _ h) (hs.hts _ hinst) (hs.hts _ hsel) (hs.hts _ hm.2.2.1) hmh hK r1 r2 r3 (f := F0 m pc ls st0) rfl (hl.1.trans hC.2.2.2.2.1.symm) (argsL := av) (rest := st) (hnp.len hn) h0 (lv_room hst) (by rw [hC.2.1]; exact hd) hpre
  · exact x_callVN X hC.1 hC.2.2.2.2.2.1 (hs.word h rfl) (hs.hts _ hinst) (hs.hts _ hsel) (hs.hts _ hm.2.2.1) hmh hK r1 r2 r3 (f := F0 m pc ls st0) rfl (hl.1.trans hC.2.2.2.2.1.symm) (argsL := av) (rest := st) (hnp.len hn) h0 (lv_room hst) (by rw [hC.2.1]; exact hd) hpre
  · have hdecl : va_Decl s ⟨owner, x.name, x.desc⟩ := by
      rcases hdc with h9 | ⟨b9, k9, r9, h9, h8⟩
      · exact va_Decl.abs (va_Nw.of rfl (hs.word (args := args) h9 rfl))
      · exact va_Decl.of (hs.hts (args := args) _ h9) (hs.hts (args := args) _ h8)
    exact x_callU X hC.1 hC.2.2.2.2.2.1 (hs.hts _ h) (hs.hts _ hsm) hdecl hmh (hs.hts _ hsel) (hs.hts _ hinst) hK r1 r2 r3 (f := F0 m pc ls st0) rfl (hl.1.trans hC.2.2.2.2.1.symm) (argsL := av) (rest := st) (hnp.len hn) h0 (lv_room hst) (by rw [hC.2.1]; exact hd) hpre
theorem x_cf {n a ci count : Nat} {fs : List Value} {q : vw_C} (hw : xCF mi.1.cls idx q.1 mj n) (hd : decode mi.2.1 pc = .ok (.invokeinterface idx count, 5)) (ha : xAt g A a (.inr (ci, fs))) (hci : xcl[ci]? = some q) (hc : xW g mj d1 0 (xpad mj.2.2.1 (xent (.ref a :: av))) [] A Q1) (hsl : (lg_sl (.ref a :: av)).length ≤ mj.2.2.1) (hn : av.length = n) (hdd : d1 + 1 ≤ d) (hst : xrs st) {st0 : List Value} (h0 : st0 = av.reverse ++ .ref a :: st) (k : ∀ o A1, Q1 o A1 → xAfter g mi d pc (pc + 5) L st Q o A1) : xW g mi d pc L st0 A Q := by
  obtain ⟨hm, hinst, x, hnp, hmh, h, hif, hsel⟩ := hw
  refine xW.call (len := 5) hm hsl hdd ?_ hc k
  intro p e R s m args below meth c T locs cells slots ls Pre Post PostX hC hs hr hl X hK hpre
  obtain ⟨cellB, r1, r2, r3⟩ := x_recv hs hr ha hci
  obtain ⟨kB, hkB, -⟩ := Vm.findClass_spec r3
  exact x_callF X hC.1 hC.2.2.2.2.2.1 (hs.hts _ h) (hs.2.2.1 _ hif) (hs.hts _ hsel) (hs.hts _ hinst) hmh hK r1 r2 r3 hkB (f := F0 m pc ls st0) rfl (hl.1.trans hC.2.2.2.2.1.symm) (argsL := av) (rest := st) (hnp.len hn) h0 (lv_room hst) (by rw [hC.2.1]; exact hd) hpre
theorem x_ci {n a : Nat} (hw : xCI mi.1.cls idx mj n) (hd : decode mi.2.1 pc = .ok (.invokespecial idx, 3)) (hc : xW g mj d1 0 (xpad mj.2.2.1 (xent (.ref a :: av))) [] A Q1) (hsl : (lg_sl (.ref a :: av)).length ≤ mj.2.2.1) (hn : av.length = n) (hdd : d1 + 1 ≤ d) (hst : xrs st) {st0 : List Value} (h0 : st0 = av.reverse ++ .ref a :: st) (k : ∀ o A1, Q1 o A1 → xAfter g mi d pc (pc + 3) L st Q o A1) : xW g mi d pc L st0 A Q := by
  obtain ⟨hm, hy1, hcw, hnp, hmh, hinst, hk⟩ := hw
  refine xW.call (len := 3) hm hsl hdd ?_ hc k
  intro p e R s m args below meth c T locs cells slots ls Pre Post PostX hC hs hr hl X hK hpre
  rcases hk with h | ⟨host, h⟩
  · exact x_callI X hC.1 hC.2.2.2.2.2.1 hy1 (hs.hts _ h) (hs.hts _ hinst) (hs.hts _ hcw) hmh hK (f := F0 m pc ls st0) rfl (hl.1.trans hC.2.2.2.2.1.symm) (argsL := av) (rest := st) (b := a) (hnp.len hn) h0 (lv_room hst) (by rw [hC.2.1]; exact hd) hpre
  · exact x_callIN X hC.1 hC.2.2.2.2.2.1 hy1 (hs.word h rfl) (hs.hts _ hinst) (hs.hts _ hcw) hmh hK (f := F0 m pc ls st0) rfl (hl.1.trans hC.2.2.2.2.1.symm) (argsL := av) (rest := st) (b := a) (hnp.len hn) h0 (lv_room hst) (by rw [hC.2.1]; exact hd) hpre
theorem x_cu {n a ci : Nat} {fs : List Value} {q : vw_C} (hw : xCU mi.1.cls idx mj n) (hd : decode mi.2.1 pc = .ok (.invokespecial idx, 3)) (ha : xAt g A a (.inr (ci, fs))) (hci : xcl[ci]? = some q) (hc : xW g mj d1 0 (xpad mj.2.2.1 (xent (.ref a :: av))) [] A Q1) (hsl : (lg_sl (.ref a :: av)).length ≤ mj.2.2.1) (hn : av.length = n) (hdd : d1 + 1 ≤ d) (hst : xrs st) {st0 : List Value} (h0 : st0 = av.reverse ++ .ref a :: st) (k : ∀ o A1, Q1 o A1 → xAfter g mi d pc (pc + 3) L st Q o A1) : xW g mi d pc L st0 A Q := by
  obtain ⟨hm, hno, hnp, hinst, h, hsm, hsup⟩ := hw
  refine xW.call (len := 3) hm hsl hdd ?_ hc k
  intro p e R s m args below meth c T locs cells slots ls Pre Post PostX hC hs hr hl X hK hpre
  obtain ⟨cellB, r1, r2, r3⟩ := x_recv hs hr ha hci
  obtain ⟨kB, hkB, -⟩ := Vm.findClass_spec r3
  exact x_callSU X hC.1 hC.2.2.2.2.2.1 (hs.hts _ h) (hs.hts _ hsm) (hs.hts _ hsup) (hs.hts _ hinst) (hs.hts _ hm.2.2.1) hno hK r1 r2 hkB (f := F0 m pc ls st0) rfl (hl.1.trans hC.2.2.2.2.1.symm) (argsL := av) (rest := st) (hnp.len hn) h0 (lv_room hst) (by rw [hC.2.1]; exact hd) hpre
/-- Object.<init> -/
theorem x_objInit {a : Nat} (hlk : Cond.methodLink mi.1.cls idx Lib.objectInit ∈ lw_all) (hin : Cond.instanceMethod Lib.objectInit ∈ lw_all) (hcd : Cond.code Lib.objectInit ⟨#[0xb1]⟩ 1 none ∈ lw_all) (hd : decode mi.2.1 pc = .ok (.invokespecial idx, 3)) (hdd : 1 ≤ d) (hst : xrs st) (k : xW g mi d (pc + 3) L st A Q) : xW g mi d pc L (.ref a :: st) A Q := xW.pure (by
  intro p e R s m args below meth c H locs cells slots ls Q9 hC hs hr hl hd1 hd2 kk
  have hst : (st.map fun v => v.category).sum ≤ 8 := hst
  exact W.objInit hC.1 hC.2.1 hC.2.2.2.2.2.1 (hs.hts _ hlk) (hs.hts _ hin) (hs.hts _ hcd) rfl (hl.1.trans hC.2.2.2.2.1.symm) rfl hd (by omega) (by show 2 * 0 + _ + 12 ≤ _; omega) (kk ls hl)) k
/-! throwing -/
theorem x_out {q k : Nat} {fs : List Value} (hq : A.1 q = some (.inr (k, fs))) (hck : ∃ r, xcl[k]? = some r) (hout : (tableOf mi.2.2.2.2).all (fun x => !covers x pc) = true) (h : Q (.threw q) A) : xX g mi d pc L q A Q := by
  intro hok
  refine ⟨.threw q, A, hok, Nat.le_refl _, Nat.le_refl _, Or.inr ⟨q, k, fs, rfl, hq⟩, h, ?_⟩
  intro p e R s m args below meth c H locs cells slots ls rest hC hs hr hz hl hlo hc hsl hd hd2
  rw [Nat.sub_self, Nat.sub_self, Nat.add_zero, Nat.add_zero]
  intro T hT X
  have hout' : ∀ x ∈ c.exceptionTable.toList, covers x pc = false := by
    intro x hx
    rw [hC.2.2.2.2.2.2.2] at hx
    have := List.all_eq_true.mp hout x hx
    simpa only [Bool.not_eq_true'] using this
  obtain ⟨st1, hrun, hend, hW, hsm⟩ := X.leaveThrown q (g := F0 m pc ls rest) rfl rfl rfl hout' hC.2.2.2.1
  refine ⟨_, st1, hrun, hend, ?_, ?_, ?_, hW, locs, hlo, hsm⟩
  · show xRep g A T.heap
    rw [hT]; exact hr
  · show T.heap.size = _
    rw [hT]; exact hz
  · intro i _
    show T.heap[i]? = _
    rw [hT]
theorem x_athrow {q : Nat} (hd : decode mi.2.1 pc = .ok (.athrow, 1)) (k : xX g mi d pc L q A Q) : xW g mi d pc L (.ref q :: st) A Q := by
  intro hok
  obtain ⟨o, A', h1, h2, h3, h4, h5, h6⟩ := k hok
  refine ⟨o, A', h1, h2, h3, h4, h5, ?_⟩
  intro p e R s m args below meth c H locs cells slots ls hC hs hr hz hl hlo hc hsl hd1 hd2
  exact vx_athrow hC.1 hC.2.1 hd (h6 p e R s m args below meth c H locs cells slots ls st hC hs hr hz hl hlo hc hsl hd1 hd2)
/-- caught by row x of the table (the rows ahead don't take it) -/
theorem x_catch {q k : Nat} {fs : List Value} {r : vw_C} {name : String} (pre : List (Nat × Nat × Nat × Nat)) (x : Nat × Nat × Nat × Nat) (suf : List (Nat × Nat × Nat × Nat)) (hsp : mi.2.2.2.2 = pre ++ x :: suf)
    (hpass : ∀ z ∈ pre, covers ⟨z.1, z.2.1, z.2.2.1, z.2.2.2⟩ pc = false ∨ (z.2.2.2 ≠ 0 ∧ ∃ nm : String, Cond.classLink mi.1.cls z.2.2.2 nm ∈ lw_all ∧ (r.1, nm) ∈ xncs)) (hcov : covers ⟨x.1, x.2.1, x.2.2.1, x.2.2.2⟩ pc = true) (h0 : x.2.2.2 ≠ 0)
    (hlk : Cond.classLink mi.1.cls x.2.2.2 name ∈ lw_all) (hq : A.1 q = some (.inr (k, fs))) (hck : xcl[k]? = some r) (hw : r.1 = name ∨ Cond.castable r.1 name ∈ lw_tbl) (kq : xW g mi d x.2.2.1 L [.ref q] A Q) : xX g mi d pc L q A Q := by
  intro hok
  obtain ⟨o, A', h1, h2, h3, h4, h5, h6⟩ := kq hok
  refine ⟨o, A', h1, h2, h3, h4, h5, ?_⟩
  intro p e R s m args below meth c H locs cells slots ls rest hC hs hr hz hl hlo hc hsl hd1 hd2 T hT X
  obtain ⟨ce, g1, g3, hcl⟩ := x_recv hs hr (Or.inl hq) hck
  have hcls := (hs.K.1 k _ hck).2
  have g2 : ce.cls = (xD g).1 k := Option.some.inj (hcl.symm.trans hcls.1)
  have hpl : e.platform.magicAccessors = ({} : Platform).magicAccessors := by rw [X.admits.platform]
  obtain ⟨c5, hc5, hcl5⟩ := Cond.classLink_spec hC.2.2.2.2.2.1 (hs.hts (args := args) _ hlk) e.platform hpl
  have hasg : s.vm.assignable ce.cls c5 = true := by
    rcases hw with h | h
    · have : c5 = ce.cls := Option.some.inj (hc5.symm.trans (h ▸ hcl))
      rw [this, g2]
      exact va_assign hcls
    · obtain ⟨c3, c4, hc3, hc4, hasg⟩ := Cond.castable_spec (hs.word (args := args) h rfl)
      have e3 : c3 = ce.cls := Option.some.inj (hc3.symm.trans hcl)
      have e4 : c4 = c5 := Option.some.inj (hc4.symm.trans hc5)
      rw [← e3, ← e4]
      exact hasg
  have hsplit : c.exceptionTable.toList = tableOf pre ++ ⟨x.1, x.2.1, x.2.2.1, x.2.2.2⟩ :: tableOf suf := by
    rw [hC.2.2.2.2.2.2.2, hsp]
    simp [tableOf]
  obtain ⟨vm', X', st⟩ := X.thenCaughtThrough q (g := F0 m pc ls rest) rfl (Steps.refl _) (by rw [hT]; exact g1) g3 (by obtain ⟨k9, h9, -⟩ := Vm.findClass_spec hcl; exact ⟨k9, h9⟩) (tableOf pre) ⟨x.1, x.2.1, x.2.2.1, x.2.2.2⟩ (tableOf suf) hsplit
    (fun z hz => by
      unfold tableOf at hz
      obtain ⟨z0, hz0, rfl⟩ := List.mem_map.mp hz
      rcases hpass z0 hz0 with h | ⟨hz1, nm, hl1, hn1⟩
      · exact Or.inl h
      · obtain ⟨c6, hc6, hcl6⟩ := Cond.classLink_spec hC.2.2.2.2.2.1 (hs.hts (args := args) _ hl1) e.platform hpl
        obtain ⟨a8, b8, j1, j2, j3⟩ := hs.2.2.2.1 _ hn1
        have e8 : a8 = ce.cls := Option.some.inj (j1.symm.trans hcl)
        have e9 : b8 = c6 := Option.some.inj (j2.symm.trans hc6)
        exact Or.inr ⟨hz1, _, hcl6, by rw [← e8, ← e9]; exact j3⟩) hcov (Or.inr ⟨h0, c5, hcl5, hasg⟩)
  obtain ⟨t, a1, b1⟩ := h6 p e R s m args below meth c H locs cells slots ls hC hs hr hz hl hlo hc hsl hd1 hd2 (T.setVm vm') hT X'
  exact ⟨t, st.trans a1, b1⟩
end XSITE
end XR3

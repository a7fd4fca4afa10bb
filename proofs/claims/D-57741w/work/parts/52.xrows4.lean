/-! MORE ROWS: copying arrays, new exceptions, instanceof that fails -/
section XR4
variable {g : xG} {mi : xM} {d pc idx : Nat} {L : List (Option Value)} {st : List Value} {A : xA} {Q : Outcome → xA → Prop}
def xCpW (own : String) (idx : Nat) : Prop := Cond.methodLink own idx arraycopyName ∈ lw_all ∧ Cond.native arraycopyName ∈ lw_all ∧ Cond.static arraycopyName ∈ lw_all ∧ Cond.initialized "java/lang/System" ∈ lw_all
theorem x_nn {z : Int32} (hz : ¬ z < 0) : z.toInt = (z.toNatClampNeg : Int) := by
  have hz0 : (0 : Int) ≤ z.toInt := by
    have := Int32.not_lt.mp hz
    simpa using Int32.le_iff_toInt_le.mp this
  show z.toInt = ((z.toInt.toNat : Nat) : Int)
  omega
theorem x_nfw : nativeFrameWords "java/lang/System" "arraycopy" 5 = 7 := by decide
theorem x_copyi {t a0 a n0 n1 : Nat} {f h : Nat → Int32} {ty : FieldType} {sp dp n : Int32} (hw : xCpW mi.1.cls idx) (ht : (xtys g)[t]? = some (xaC g t, ty)) (hprim : refKind ty = false) (ha0 : xAt g A a0 (.inl (t, n0, .inl f))) (ha : A.1 a = some (.inl (t, n1, .inl h))) (h1 : ¬ sp < 0) (h2 : ¬ dp < 0) (h3 : ¬ n < 0) (h4 : sp.toNatClampNeg + n.toNatClampNeg ≤ n0) (h5 : dp.toNatClampNeg + n.toNatClampNeg ≤ n1) (hfit : ∀ i, i < n.toNatClampNeg → fits ty (.int (f (sp.toNatClampNeg + i))) = true) (hdd : 1 ≤ d) (hst : xrs st) (hd : decode mi.2.1 pc = .ok (.invokestatic idx, 3))
    (k : xW g mi d (pc + 3) L st (xup A a (.inl (t, n1, .inl (va_cpy f h sp.toNatClampNeg dp.toNatClampNeg n.toNatClampNeg)))) Q) : xW g mi d pc L (.int n :: .int dp :: .ref a :: .int sp :: .ref a0 :: st) A Q := by
  refine xW.wr ha ?_ k
  intro p e R s m args below meth c H locs cells slots ls Q9 hok hC hs hr hl hd1 hd2 kk
  have hst : (st.map fun v => v.category).sum ≤ 8 := hst
  have hlw := x_nfw
  intro T hT X
  have hc0 : H[a0]? = some (vp_cell (xaC g t) (n0, .inl f)) := ha0.at hs hr 0 _ rfl
  have hc1 : H[a]? = some (vp_cell (xaC g t) (n1, .inl h)) := (show xAt g A a _ from Or.inl ha).at hs hr 0 _ rfl
  obtain ⟨-, k0, hk0, cm0, hkk0⟩ := (hs.K.2 t _ ht).1 n0 (fun j => .int (f j))
  obtain ⟨-, k1, hk1, cm1, hkk1⟩ := (hs.K.2 t _ ht).1 n1 (fun j => .int (h j))
  obtain ⟨vm', X', step⟩ := X.arraycopy hC.1 hC.2.2.2.2.2.1 (hs.hts _ hw.1) (hs.hts _ hw.2.1) (hs.hts _ hw.2.2.1) (hs.hts _ hw.2.2.2) (src := a0) (dst := a) (cs := vp_cell (xaC g t) (n0, .inl f)) (cd := vp_cell (xaC g t) (n1, .inl h)) (srcPos := sp) (destPos := dp) (n := n) (by rw [hT]; exact hc0) (by rw [hT]; exact hc1)
    (fun _ h => by cases h) (fun _ h => by cases h) (fun h => by cases h) (fun h => by cases h) hk0 hk1 hkk0 hkk1 (by simp [hprim]) h1 h2 h3
    (by rw [x_nn h1, x_nn h3]; show ¬ _ > ((arrV (xaC g t) n0 (fun j => .int (f j))).slots.size : Int); rw [arrV_size]; omega)
    (by rw [x_nn h2, x_nn h3]; show ¬ _ > ((arrV (xaC g t) n1 (fun j => .int (h j))).slots.size : Int); rw [arrV_size]; omega)
    (fun vm₁ _ i hi => by
      have e : (vp_cell (xaC g t) (n0, .inl f)).slots.getD (sp.toNatClampNeg + i) .null = .int (f (sp.toNatClampNeg + i)) := by
        show (arrV (xaC g t) n0 (fun j => .int (f j))).slots.getD _ _ = _
        rw [Array.getD_eq_getD_getElem?, arrV_read _ _ (by omega)]
        rfl
      refine ⟨?_, ?_⟩
      · rw [e]
        exact hfit i hi
      · rw [e]
        exact trivial)
    (g := F0 m pc ls (.int n :: .int dp :: .ref a :: .int sp :: .ref a0 :: st)) rfl (by rw [hC.2.2.2.2.1]; exact hl.1) (rest := st) rfl (by rw [hC.2.1]; exact hd) (by omega) (by show 2 * 0 + _ + _ ≤ _; omega)
  have e1 : copied (vp_cell (xaC g t) (n0, .inl f)) (vp_cell (xaC g t) (n1, .inl h)) sp dp n = vp_cell (xaC g t) (n1, .inl (va_cpy f h sp.toNatClampNeg dp.toNatClampNeg n.toNatClampNeg)) := va_copied (fun z => .int z) (xaC g t) (xaC g t) f h h4
  rw [e1] at X' step
  have hlt : a < H.size := (Array.getElem?_eq_some_iff.mp hc1).1
  have hheap : ((T.setVm vm').setCell a (vp_cell (xaC g t) (n1, .inl (va_cpy f h sp.toNatClampNeg dp.toNatClampNeg n.toNatClampNeg)))).heap = H.setIfInBounds a (vp_cell (xaC g t) (n1, .inl (va_cpy f h sp.toNatClampNeg dp.toNatClampNeg n.toNatClampNeg))) := by rw [← hT]; rfl
  have oq : ∀ q : Nat, q ≠ a → (H.setIfInBounds a (vp_cell (xaC g t) (n1, .inl (va_cpy f h sp.toNatClampNeg dp.toNatClampNeg n.toNatClampNeg))))[q]? = H[q]? := fun q hq => by simp [Array.getElem?_setIfInBounds, Ne.symm hq]
  obtain ⟨r1, r2, r3⟩ := x_ast_fin (t := t) (n := 0) (x1 := (n1, .inl (va_cpy f h sp.toNatClampNeg dp.toNatClampNeg n.toNatClampNeg))) hok hr ha (show (H.setIfInBounds a _)[a]? = some _ by simp [Array.getElem?_setIfInBounds, hlt]) oq
  obtain ⟨w, a1, b1⟩ := kk _ _ r1 (by simp) r2 (fun q hq => by
      obtain ⟨z, -, hz⟩ := List.mem_map.mp hq
      rw [← hz]
      exact (hok.2 a _ ha).1) _ hheap X'
  exact ⟨w, step w a1, b1⟩
theorem x_copyq {t0 t a0 a n0 n1 : Nat} {f h : Nat → Option Nat} {E0 E1 : String} {sp dp n : Int32} (hw : xCpW mi.1.cls idx) (ht0 : (xtys g)[t0]? = some (xaC g t0, .object E0)) (ht : (xtys g)[t]? = some (xaC g t, .object E1)) (ha0 : xAt g A a0 (.inl (t0, n0, .inr (.inr (.inr (.inr f)))))) (ha : A.1 a = some (.inl (t, n1, .inr (.inr (.inr (.inr h)))))) (h1 : ¬ sp < 0) (h2 : ¬ dp < 0) (h3 : ¬ n < 0) (h4 : sp.toNatClampNeg + n.toNatClampNeg ≤ n0) (h5 : dp.toNatClampNeg + n.toNatClampNeg ≤ n1)
    (hel : ∀ i : Nat, i < n.toNatClampNeg → ∀ y : Nat, f (sp.toNatClampNeg + i) = some y → ∃ (ci : Nat) (fs : List Value) (cl1 : vw_C), xAt g A y (.inr (ci, fs)) ∧ xcl[ci]? = some cl1 ∧ (cl1.1 = E1 ∨ Cond.castable cl1.1 E1 ∈ lw_tbl)) (hdd : 1 ≤ d) (hst : xrs st) (hd : decode mi.2.1 pc = .ok (.invokestatic idx, 3))
    (k : xW g mi d (pc + 3) L st (xup A a (.inl (t, n1, .inr (.inr (.inr (.inr (va_cpy f h sp.toNatClampNeg dp.toNatClampNeg n.toNatClampNeg))))))) Q) : xW g mi d pc L (.int n :: .int dp :: .ref a :: .int sp :: .ref a0 :: st) A Q := by
  refine xW.wr ha ?_ k
  intro p e R s m args below meth c H locs cells slots ls Q9 hok hC hs hr hl hd1 hd2 kk
  have hst : (st.map fun v => v.category).sum ≤ 8 := hst
  have hlw := x_nfw
  intro T hT X
  have hc0 : H[a0]? = some (vp_cell (xaC g t0) (n0, .inr (.inr (.inr (.inr f))))) := ha0.at hs hr 0 _ rfl
  have hc1 : H[a]? = some (vp_cell (xaC g t) (n1, .inr (.inr (.inr (.inr h))))) := (show xAt g A a _ from Or.inl ha).at hs hr 0 _ rfl
  obtain ⟨-, k0, hk0, cm0, hkk0⟩ := (hs.K.2 t0 _ ht0).1 n0 (fun j => va_rf (f j))
  obtain ⟨-, k1, hk1, cm1, hkk1⟩ := (hs.K.2 t _ ht).1 n1 (fun j => va_rf (h j))
  obtain ⟨vm', X', step⟩ := X.arraycopy hC.1 hC.2.2.2.2.2.1 (hs.hts _ hw.1) (hs.hts _ hw.2.1) (hs.hts _ hw.2.2.1) (hs.hts _ hw.2.2.2) (src := a0) (dst := a) (cs := vp_cell (xaC g t0) (n0, .inr (.inr (.inr (.inr f))))) (cd := vp_cell (xaC g t) (n1, .inr (.inr (.inr (.inr h))))) (srcPos := sp) (destPos := dp) (n := n) (by rw [hT]; exact hc0) (by rw [hT]; exact hc1)
    (fun _ h => by cases h) (fun _ h => by cases h) (fun h => by cases h) (fun h => by cases h) hk0 hk1 hkk0 hkk1 rfl h1 h2 h3
    (by rw [x_nn h1, x_nn h3]; show ¬ _ > ((arrV (xaC g t0) n0 (fun j => va_rf (f j))).slots.size : Int); rw [arrV_size]; omega)
    (by rw [x_nn h2, x_nn h3]; show ¬ _ > ((arrV (xaC g t) n1 (fun j => va_rf (h j))).slots.size : Int); rw [arrV_size]; omega)
    (fun vm₁ hal i hi => by
      have e : (vp_cell (xaC g t0) (n0, .inr (.inr (.inr (.inr f))))).slots.getD (sp.toNatClampNeg + i) .null = va_rf (f (sp.toNatClampNeg + i)) := by
        show (arrV (xaC g t0) n0 (fun j => va_rf (f j))).slots.getD _ _ = _
        rw [Array.getD_eq_getD_getElem?, arrV_read _ _ (by omega)]
        rfl
      rw [e]
      cases hy : f (sp.toNatClampNeg + i) with
      | none => exact ⟨rfl, trivial⟩
      | some y =>
        obtain ⟨ci, fs, cl1, hv, hc9, hw9⟩ := hel i hi y hy
        obtain ⟨r', hr', cellV, g1, g2, g3, -⟩ := hv.at hs hr 0 _ rfl
        have hr9 : r' = cl1 := Option.some.inj (hr'.symm.trans hc9)
        subst hr9
        have hcls := (hs.K.1 ci _ hc9).2
        obtain ⟨kA, comp, q1, q2, q3, -⟩ := (hs.K.2 t _ ht).2
        cases hk1.symm.trans q1
        cases hkk1.symm.trans q2
        have hasg : s.vm.assignable ((xD g).1 ci) cm1 = true := by
          rcases hw9 with hw | hw
          · have hcomp : cm1 = (xD g).1 ci := Option.some.inj (q3.symm.trans (hw ▸ hcls.1))
            rw [hcomp]
            exact va_assign hcls
          · obtain ⟨c3, t3, w1, w2, w3⟩ := Cond.castable_spec (hs.word (args := args) hw rfl)
            cases Option.some.inj (hcls.1.symm.trans w1)
            cases Option.some.inj (q3.symm.trans w2)
            exact w3
        obtain ⟨kC, hkC, -⟩ := hcls.2
        obtain ⟨kE, hkE, -⟩ := Vm.findClass_spec q3
        obtain ⟨kC', hkC', -⟩ := hal.2.2 _ _ hkC
        obtain ⟨kE', hkE', -⟩ := hal.2.2 _ _ hkE
        refine ⟨rfl, cellV, (show T.heap[y]? = some cellV by rw [hT]; exact g1), (fun q h => by rw [g3] at h; cases h), ⟨kC', by rw [g2]; exact hkC'⟩, ?_, ?_⟩
        · exact ⟨kE', hkE'⟩
        · show vm₁.assignable _ _ = true
          rw [hal.assignable, g2]
          exact hasg)
    (g := F0 m pc ls (.int n :: .int dp :: .ref a :: .int sp :: .ref a0 :: st)) rfl (by rw [hC.2.2.2.2.1]; exact hl.1) (rest := st) rfl (by rw [hC.2.1]; exact hd) (by omega) (by show 2 * 0 + _ + _ ≤ _; omega)
  have e1 : copied (vp_cell (xaC g t0) (n0, .inr (.inr (.inr (.inr f))))) (vp_cell (xaC g t) (n1, .inr (.inr (.inr (.inr h))))) sp dp n = vp_cell (xaC g t) (n1, .inr (.inr (.inr (.inr (va_cpy f h sp.toNatClampNeg dp.toNatClampNeg n.toNatClampNeg))))) := by
    rw [vp_cell_q, vp_cell_q, vp_cell_q]
    exact va_copied (fun z => va_rf z) (xaC g t0) (xaC g t) f h h4
  rw [e1] at X' step
  have hlt : a < H.size := (Array.getElem?_eq_some_iff.mp hc1).1
  have hheap : ((T.setVm vm').setCell a (vp_cell (xaC g t) (n1, .inr (.inr (.inr (.inr (va_cpy f h sp.toNatClampNeg dp.toNatClampNeg n.toNatClampNeg))))))).heap = H.setIfInBounds a (vp_cell (xaC g t) (n1, .inr (.inr (.inr (.inr (va_cpy f h sp.toNatClampNeg dp.toNatClampNeg n.toNatClampNeg)))))) := by rw [← hT]; rfl
  have oq : ∀ q : Nat, q ≠ a → (H.setIfInBounds a (vp_cell (xaC g t) (n1, .inr (.inr (.inr (.inr (va_cpy f h sp.toNatClampNeg dp.toNatClampNeg n.toNatClampNeg)))))))[q]? = H[q]? := fun q hq => by simp [Array.getElem?_setIfInBounds, Ne.symm hq]
  obtain ⟨r1, r2, r3⟩ := x_ast_fin (t := t) (n := 0) (x1 := (n1, .inr (.inr (.inr (.inr (va_cpy f h sp.toNatClampNeg dp.toNatClampNeg n.toNatClampNeg)))))) hok hr ha (show (H.setIfInBounds a _)[a]? = some _ by simp [Array.getElem?_setIfInBounds, hlt]) oq
  obtain ⟨w, a1, b1⟩ := kk _ _ r1 (by simp) r2 (fun q hq => by
      obtain ⟨z, -, hz⟩ := List.mem_map.mp hq
      rw [← hz]
      exact (hok.2 a _ ha).1) _ hheap X'
  exact ⟨w, step w a1, b1⟩
/-- 'throw new X()' of a class whose fields aren't kept, with no handler here -/
theorem x_throw0 {k9 ik ic : Nat} {cls : String} {names : List String} {T9 : u_T} (hc9 : xcl[k9]? = some (cls, T9, 0)) (hcls : Bundle.fit cls = true) (hnames : ∀ n ∈ names, Bundle.fit n = true) (hlt : g.1.stackTraces = false)
    (hk : Cond.classLink mi.1.cls ik cls ∈ lw_all) (hini : Cond.initialized cls ∈ lw_all) (hat : ∀ w ∈ vx_at0 mi.1.cls ic cls names, w ∈ lw_tbl ∧ xmv w = true) (hgood : ∀ w ∈ Cond.classLink mi.1.cls ik cls :: Cond.initialized cls :: vx_at0 mi.1.cls ic cls names, vx_ot w = true)
    (d0 : decode mi.2.1 pc = .ok (.new ik, 3)) (d3 : decode mi.2.1 (pc + 3) = .ok (.dup, 1)) (d4 : decode mi.2.1 (pc + 4) = .ok (.invokespecial ic, 3)) (d7 : decode mi.2.1 (pc + 7) = .ok (.athrow, 1))
    (hout : (tableOf mi.2.2.2.2).all (fun x => !covers x (pc + 7)) = true) (hdd : names.length + 4 ≤ d) (hst : xrs st) (hq : Q (.threw A.2.1) (xal A (.inr (k9, [])) 6)) : xW g mi d pc L st A Q := by
  intro hok
  refine ⟨.threw A.2.1, xal A (.inr (k9, [])) 6, hok.al, Nat.le_succ _, Nat.le_add_right _ _, Or.inr ⟨_, _, _, rfl, xal_self⟩, hq, ?_⟩
  intro p e R s m args below meth c H locs cells slots ls hC hs hr hz hl hlo hc hsl hd1 hd2
  have hc1 : cells + 1 ≤ R.cells := by
    have h8 : (xal A (.inr (k9, [])) 6).2.1 = A.2.1 + 1 := rfl
    omega
  have hs6 : slots + 6 ≤ R.slots := by
    have h8 : (xal A (.inr (k9, [])) 6).2.2 = A.2.2 + 6 := rfl
    omega
  have hst : (st.map fun v => v.category).sum ≤ 8 := hst
  have hout' : ∀ x ∈ c.exceptionTable.toList, covers x (pc + 7) = false := by
    intro x hx
    rw [hC.2.2.2.2.2.2.2] at hx
    have := List.all_eq_true.mp hout x hx
    simpa only [Bool.not_eq_true'] using this
  have hown : s.vm.findClass mi.1.cls = some m.cls := hC.2.2.2.2.2.1
  intro T hT X
  have htr : e.platform.stackTraces = false := (show e.platform.stackTraces = g.1.stackTraces by rw [X.admits.platform]).trans hlt
  have Y := vx_rebase X (R' := { frames := R.frames, locals := R.locals, cells := 1, slots := 6 }) (Nat.le_refl _) (Nat.le_refl _) hc1 hs6
  obtain ⟨s', hA⟩ : ∃ z, z = (T.setVm s.vm).setFrames (.invoking m args :: below) := ⟨_, rfl⟩
  rw [← hA] at Y
  have hvm : s'.vm = s.vm := by rw [hA]; rfl
  have hhp : s'.heap = H := by rw [hA]; exact hT
  have hW0 : s.WarmedH s'.vm := by rw [hvm]; exact State.WarmedH.refl s
  have hat' : ∀ w ∈ vx_at0 mi.1.cls ic cls names, w.before args s' = true := fun w hw => vx_ot_at hW0 hvm.symm (hgood w (List.mem_cons_of_mem _ (List.mem_cons_of_mem _ hw))) (hs.word (hat w hw).1 (hat w hw).2 (args := args))
  have hk' : (Cond.classLink mi.1.cls ik cls).before args s' = true := vx_ot_at hW0 hvm.symm (hgood _ List.mem_cons_self) (hs.hts (args := args) _ hk)
  have hini' : (Cond.initialized cls).before args s' = true := vx_ot_at hW0 hvm.symm (hgood _ (List.mem_cons_of_mem _ List.mem_cons_self)) (hs.hts (args := args) _ hini)
  have hU' : vx_Zq Bundle.tN "UNASSIGNED_STACK" Bundle.steD (fun q => xbase g ≤ q) s' s'.heap := by rw [hhp]; exact vx_Zq.moved hW0.alike hs.2.2.2.2.2.2.2.2.2.1
  have hN' : vx_Zq Bundle.tN "SUPPRESSED_SENTINEL" Bundle.listD (fun q => xbase g ≤ q) s' s'.heap := by rw [hhp]; exact vx_Zq.moved hW0.alike hs.2.2.2.2.2.2.2.2.2.2.1
  have h : ∀ w ∈ Bundle.ownAtoms0 mi.1.cls ic cls names, w.before args s' = true := vx_own hat' (vx_isRefq hU'.1) (vx_isRefq hN'.1) hU'.2.word hN'.2.word
  have hown' : s'.vm.findClass mi.1.cls = some m.cls := by rw [hvm]; exact hown
  have hins : (Cond.instantiable cls 6).before args s' = true := h _ (by simp [Bundle.ownAtoms0])
  obtain ⟨vm₁, cX, kX, hfX, hkX, -, -, X₁, st1⟩ := Y.newCold hC.1 (own := mi.1.cls) (C := cls) (index := ik) (n := 6) hown' hk' hins hini'
    (g := F0 m pc ls st) rfl (by rw [hC.2.1]; exact d0) (Nat.le_refl _) (Nat.le_refl _)
  generalize hT1 : (T.setVm vm₁).pushCell { cls := cX, slots := kX.instanceTypes.map defaultValue, vm := .none } = T1 at X₁ st1
  have hcat : (Value.ref T.heap.size).category = 1 := rfl
  have hcellA : T1.heap[T.heap.size]? = some (freshCell cX kX) := by rw [← hT1]; exact State.heap_pushCell_size _ _
  have d3' : decode c.code (pc + 3) = .ok (.dup, 1) := by rw [hC.2.1]; exact d3
  obtain ⟨U, hsteps, hrun, hend, hW, hsame, ce, hce, hO⟩ := X₁.ctorThrow0 hC.1 htr (own := mi.1.cls) (cls := cls) (names := names) (ic := ic) hown' hcls hnames h (fun x hx => nomatch hx) hfX hkX hcellA (by rw [hhp, hT]; exact Nat.le_refl _)
    (g := { method := m, pc := pc + 4, locals := ls, stack := .ref T.heap.size :: .ref T.heap.size :: st, locked := none }) rfl (by show ls.size = _; rw [hC.2.2.2.2.1]; exact hl.1) rfl rfl (rest := st) rfl
    (by rw [hC.2.1]; exact d4) (by rw [hC.2.1]; exact d7) hout' (by show _ < R.frames; omega) (by simp only [List.map_cons, List.sum_cons, hcat]; show 2 * 0 + _ + _ ≤ _; have h7 : 64 * (names.length + 4) ≤ 64 * d := Nat.mul_le_mul_left _ hdd; show _ ≤ R.locals; omega) hC.2.2.2.1
  obtain ⟨f1, f2⟩ := vx_frame hsame
  rw [hhp] at f1 f2
  have hsz : U.heap.size = H.size + 1 := by
    have z1 : U.heap.size ≤ s'.heap.size + (0 + 1) := hsame.2.2.1
    rw [hhp] at z1
    have z2 : T.heap.size < U.heap.size := (Array.getElem?_eq_some_iff.mp hce).1
    rw [hT] at z2
    omega
  have hWs : s.WarmedH U.vm := State.WarmedH.trans hW0 hW
  have hcl : s.vm.findClass cls = some ce.cls := by
    have h9 := hO.cls
    rw [hvm] at h9
    exact h9
  have hall : s.sameButNew ({ U with vm := s.vm } : State) locs (cells + 1) (slots + 6) := by
    subst hA
    obtain ⟨e1, e2⟩ := hsame
    rw [State.setFrames_setFrames] at e1
    have h2 : (T.setVm s.vm).sameButNew ({ U with vm := s.vm } : State) [] (0 + 1) (0 + 6) := ⟨e1, e2⟩
    have h3 := X.same.trans h2
    rw [List.append_nil] at h3
    exact h3.mono (Nat.le_refl _) (Nat.le_refl _)
  have hoq : ∀ q : Nat, q < H.size → U.heap[q]? = H[q]? := fun q hq => f2 q hq (fun z hz => nomatch hz)
  refine ⟨U, ?_, hrun, ?_, ?_, ?_, ?_, hWs, locs, hlo, ?_⟩
  · refine st1 _ ?_
    show Steps p.tables e below (T1.setTop { method := m, pc := pc + 3, locals := ls, stack := .ref T.heap.size :: st, locked := none }) _
    jvm_step X₁.here [X₁.here.top, hC.1, d3', Value.category]
    exact hsteps
  · rw [← hz, ← hT]; exact hend
  · refine hr.al hz ⟨_, hc9, ce, ?_, ?_, hO.vm, fun k hk => absurd hk (Nat.not_lt_zero _)⟩ hoq
    · show U.heap[A.2.1]? = _
      rw [← hz, ← hT]; exact hce
    · exact (Option.some.inj ((hs.K.1 k9 _ hc9).2.1.symm.trans hcl)).symm
  · show U.heap.size = A.2.1 + 1
    rw [hsz, hz]
  · intro q hq
    exact hoq q (Nat.lt_of_lt_of_le hq hs.1)
  · rw [show cells + ((xal A (.inr (k9, [])) 6).2.1 - A.2.1) = cells + 1 from by show cells + (A.2.1 + 1 - A.2.1) = _; omega, show slots + ((xal A (.inr (k9, [])) 6).2.2 - A.2.2) = slots + 6 from by show slots + (A.2.2 + 6 - A.2.2) = _; omega]
    exact hall
theorem x_aldI {a n : Nat} {f : Nat → Option Nat} {i : Int32} (hd : decode mi.2.1 pc = .ok (.aaload, 1)) (ha : xAt g A a (.inl (7, n, .inr (.inr (.inr (.inr f)))))) (hin : vp_in i n) (k : xW g mi d (pc + 1) L (va_rf (f i.toNatClampNeg) :: st) A Q) : xW g mi d pc L (.int i :: .ref a :: st) A Q := xW.pure (by
  intro p e R s m args below meth c H locs cells slots ls Q9 hC hs hr hl hd1 hd2 kk
  have hlt : i.toNatClampNeg < n := Nat.not_le.mp fun q => hin (Or.inr q)
  exact W.aald (v := va_rf (f i.toNatClampNeg)) (ty := .object "java/lang/Integer") hC.1 hC.2.1 (ha.at hs hr 0 _ rfl) (hs.2.2.2.2.2.2.2.2.2.2.2 n (fun j => va_rf (f j))) rfl (fun q => by cases q) (by show ¬ (i < 0 ∨ (arrV _ _ _).slots.size ≤ _); rw [arrV_size]; exact hin) (by show (arrV _ _ _).slots[_]? = _; rw [arrV_read _ _ hlt]) rfl rfl hd (kk ls hl)) k
theorem x_instN {a ci : Nat} {fs : List Value} {q : vw_C} {nm : String} (hd : decode mi.2.1 pc = .ok (.instanceof idx, 3)) (hlk : Cond.classLink mi.1.cls idx nm ∈ lw_all) (ha : xAt g A a (.inr (ci, fs))) (hc : xcl[ci]? = some q) (hw : (q.1, nm) ∈ xncs) (k : xW g mi d (pc + 3) L (.int 0 :: st) A Q) : xW g mi d pc L (.ref a :: st) A Q := xW.pure (by
  intro p e R s m args below meth c H locs cells slots ls Q9 hC hs hr hl hd1 hd2 kk
  exact va_instNo hC.1 hC.2.1 hC.2.2.2.2.2.1 (hs.hts _ hlk) (hs.2.2.2.1 (q.1, nm) hw) (x_recv hs hr ha hc) hd (kk ls hl)) k
end XR4

set_option maxRecDepth 100000
/-! ARRAY LISTS -/
theorem x_topv {g : xG} {mi : xM} {d pc : Nat} {L : List (Option Value)} {st : List Value} {A : xA} {Q : Outcome → xA → Prop} {v w : Value} (h : v = w) (k : xW g mi d pc L (w :: st) A Q) : xW g mi d pc L (v :: st) A Q := h ▸ k
abbrev xAl (mc : Int32) (ed : Nat) (n : Nat) : xE := .inr (11, [.int mc, .ref ed, .int (nI n)])
abbrev xQa (t cap : Nat) (f : Nat → Option Nat) : xE := .inl (t, cap, .inr (.inr (.inr (.inr f))))
theorem xAt_ov {g : xG} {A : xA} {ws : List (Nat × xE)} {a : Nat} {e : xE} (h : xAt g A a e) (hn : A.1 a = some e → ∀ b, b ∈ ws.map Prod.fst → a ≠ b) : xAt g (ov A ws) a e := h.elim (fun k => Or.inl ((ov_out (hn k)).trans k)) Or.inr
theorem xAt_o2 {g : xG} {A : xA} {a b c : Nat} {e e1 e2 e1' e2' : xE} (h : xAt g A a e) (hb : A.1 b = some e1) (hc : A.1 c = some e2) (h1 : e ≠ e1) (h2 : e ≠ e2) : xAt g (ov A [(b, e1'), (c, e2')]) a e := xAt_ov h (fun k x hx => by
  simp at hx
  rcases hx with rfl | rfl
  · exact xdf k hb h1
  · exact xdf k hc h2)
theorem c_J0_init (g : xG) (A : xA) (p : Nat) : xC g iJ0_init 1 [.ref p] A (xRet none A) := by
  show xW g _ _ 0 [some (.ref p)] [] _ _
  refine x_aload_n dJ0_init_0 rfl ?_
  refine x_objInit q228 q204 q205 dJ0_init_1 (by decide) (by exact Nat.le_of_ble_eq_true rfl) ?_
  exact x_return dJ0_init_4 rfl ⟨rfl, rfl⟩
theorem c_J1_init_l (g : xG) (A : xA) (p : Nat) (a b c : Value) (hp : A.1 p = some (.inr (11, [a, b, c]))) : xC g iJ1_init 2 [.ref p] A (xRet none (xup A p (.inr (11, [.int 0, b, c])))) := by
  show xW g _ _ 0 [some (.ref p)] [] _ _
  refine xW.at1 hp ?_
  have hD : ovD [p] := ovD_1
  refine x_aload_n dJ1_init_0 rfl ?_
  refine x_ciN ciJ1_1 dJ1_init_1 (c_J0_init _ _ _) rfl ?_
  refine x_aload_n dJ1_init_4 rfl ?_
  refine x_iconst (v := 0) dJ1_init_5 rfl ?_
  refine v_put hD (i := 0) rfl fpJ1_7_11 dJ1_init_6 ⟨rfl, rfl⟩ (by exact Nat.le_of_ble_eq_true rfl) ?_
  exact x_return dJ1_init_9 rfl ⟨rfl, rfl⟩
theorem c_J2_init (g : xG) (A : xA) (E : Nat → Nat) (hg : gW g E) (p : Nat) (a b : Value) (hp : A.1 p = some (.inr (11, [a, b, .int 0]))) : xC g iJ2_init 3 [.ref p] A (xRet none (xup A p (xAl 0 (E 0) 0))) := by
  show xW g _ _ 0 [some (.ref p)] [] _ _
  refine xW.at1 hp ?_
  have hD : ovD [p] := ovD_1
  refine x_aload_n dJ2_init_0 rfl ?_
  refine x_ciN ciJ2_1 dJ2_init_1 (c_J1_init_l _ _ _ _ _ _ (by exact ov_at hD (i := 0) rfl)) rfl ?_
  refine xW.eqA (ov_up hD (i := 0) rfl) ?_
  refine x_aload_n dJ2_init_4 rfl ?_
  refine x_gets hg.2.1.1 q229 (Or.inl rfl) dJ2_init_5 ?_
  refine v_put hD (i := 0) rfl fpJ2_9_11 dJ2_init_8 ⟨rfl, rfl⟩ (by exact Nat.le_of_ble_eq_true rfl) ?_
  exact x_return dJ2_init_11 rfl ⟨rfl, rfl⟩
theorem c_J2_size (g : xG) (A : xA) (l ed n : Nat) (mc : Int32) (hl : xAt g A l (xAl mc ed n)) : xC g iJ2_size 0 [.ref l] A (xRet (some (.int (nI n))) A) := by
  show xW g _ _ 0 [some (.ref l)] [] _ _
  refine x_aload_n dJ2_size_0 rfl ?_
  refine x_get fgJ2_48_11 dJ2_size_1 hl rfl ?_
  exact x_ireturn dJ2_size_4 rfl rfl ⟨rfl, rfl⟩
theorem c_J20_checkIndexN (g : xG) (A : xA) (i n : Nat) (hi : i < n) (hn : n < 2 ^ 31) : xC g iJ20_checkIndex 0 [.int (nI i), .int (nI n), .null] A (xRet (some (.int (nI i))) A) := by
  show xW g _ _ 0 [some (.int (nI i)), some (.int (nI n)), some (.null)] [] _ _
  refine x_iload_n dJ20_checkIndex_0 rfl ?_
  refine x_if_ltF dJ20_checkIndex_1 9 (by decide) (nI_pos (by omega)) ?_
  refine x_iload_n dJ20_checkIndex_4 rfl ?_
  refine x_iload_n dJ20_checkIndex_5 rfl ?_
  refine x_icmp_ltT (tgt := 16) dJ20_checkIndex_6 (by decide) (nI_lt hi hn) ?_
  refine x_iload_n dJ20_checkIndex_16 rfl ?_
  exact x_ireturn dJ20_checkIndex_17 rfl rfl ⟨rfl, rfl⟩
theorem c_J20_checkIndexR (g : xG) (A : xA) (i n q : Nat) (hi : i < n) (hn : n < 2 ^ 31) : xC g iJ20_checkIndex 0 [.int (nI i), .int (nI n), .ref q] A (xRet (some (.int (nI i))) A) := by
  show xW g _ _ 0 [some (.int (nI i)), some (.int (nI n)), some (.ref q)] [] _ _
  refine x_iload_n dJ20_checkIndex_0 rfl ?_
  refine x_if_ltF dJ20_checkIndex_1 9 (by decide) (nI_pos (by omega)) ?_
  refine x_iload_n dJ20_checkIndex_4 rfl ?_
  refine x_iload_n dJ20_checkIndex_5 rfl ?_
  refine x_icmp_ltT (tgt := 16) dJ20_checkIndex_6 (by decide) (nI_lt hi hn) ?_
  refine x_iload_n dJ20_checkIndex_16 rfl ?_
  exact x_ireturn dJ20_checkIndex_17 rfl rfl ⟨rfl, rfl⟩
theorem c_J30_checkIndex (g : xG) (A : xA) (i n : Nat) (hi : i < n) (hn : n < 2 ^ 31) : xC g iJ30_checkIndex 1 [.int (nI i), .int (nI n)] A (xRet (some (.int (nI i))) A) := by
  show xW g _ _ 0 [some (.int (nI i)), some (.int (nI n))] [] _ _
  refine x_iload_n dJ30_checkIndex_0 rfl ?_
  refine x_iload_n dJ30_checkIndex_1 rfl ?_
  refine x_null dJ30_checkIndex_2 ?_
  refine x_csV csJ30_105 dJ30_checkIndex_3 (c_J20_checkIndexN _ _ i n (by omega) (by omega)) rfl ?_
  exact x_ireturn dJ30_checkIndex_6 rfl rfl ⟨rfl, rfl⟩
theorem c_J2_elementData (g : xG) (A : xA) (l ed n cap : Nat) (mc : Int32) (f : Nat → Option Nat) (hl : xAt g A l (xAl mc ed n)) (hE : xAt g A ed (xQa 5 cap f)) (i : Nat) (hi : i < cap) (hc : cap < 2 ^ 31) : xC g iJ2_elementData 0 [.ref l, .int (nI i)] A (xRet (some (va_rf (f i))) A) := by
  show xW g _ _ 0 [some (.ref l), some (.int (nI i))] [] _ _
  refine x_aload_n dJ2_elementData_0 rfl ?_
  refine x_get fgJ2_9_11 dJ2_elementData_1 hl rfl ?_
  refine x_iload_n dJ2_elementData_4 rfl ?_
  refine x_ald dJ2_elementData_5 (t := 5) rfl hE (vp_in_nI (n := i) (by omega) (by omega)) ?_
  refine x_topv (congrArg va_rf (congrArg _ (nI_clamp (by omega)))) ?_
  exact x_areturn dJ2_elementData_6 rfl (Or.inl ⟨_, rfl⟩) (va_rf_or _) ⟨rfl, rfl⟩
theorem c_J2_getq (g : xG) (A : xA) (l ed n cap : Nat) (mc : Int32) (f : Nat → Option Nat) (hl : xAt g A l (xAl mc ed n)) (hE : xAt g A ed (xQa 5 cap f)) (i : Nat) (hi : i < n) (hn : n ≤ cap) (hc : cap < 2 ^ 31) : xC g iJ2_get 2 [.ref l, .int (nI i)] A (xRet (some (va_rf (f i))) A) := by
  show xW g _ _ 0 [some (.ref l), some (.int (nI i))] [] _ _
  refine x_iload_n dJ2_get_0 rfl ?_
  refine x_aload_n dJ2_get_1 rfl ?_
  refine x_get fgJ2_48_11 dJ2_get_2 hl rfl ?_
  refine x_csV csJ2_118 dJ2_get_5 (c_J30_checkIndex _ _ i n (by omega) (by omega)) rfl ?_
  refine x_pop dJ2_get_8 rfl ?_
  refine x_aload_n dJ2_get_9 rfl ?_
  refine x_iload_n dJ2_get_10 rfl ?_
  refine x_cvV (q := (RJ2, TJ2, 3)) cvJ2_123_J2 dJ2_get_11 hl rfl (c_J2_elementData _ _ _ _ _ _ _ _ hl hE i (by omega) (by omega)) rfl ?_
  exact x_areturn dJ2_get_14 rfl (Or.inl ⟨_, rfl⟩) (va_rf_or _) ⟨rfl, rfl⟩
theorem c_J2_get (g : xG) (A : xA) (l ed n cap : Nat) (mc : Int32) (f : Nat → Option Nat) (hl : xAt g A l (xAl mc ed n)) (hE : xAt g A ed (xQa 5 cap f)) (i y : Nat) (hi : i < n) (hn : n ≤ cap) (hc : cap < 2 ^ 31) (hy : f i = some y) : xC g iJ2_get 2 [.ref l, .int (nI i)] A (xRet (some (.ref y)) A) := by
  have k := c_J2_getq g A l ed n cap mc f hl hE i hi hn hc
  rw [hy] at k
  exact k
theorem c_J2_add_2 (g : xG) (A : xA) (l ed n cap : Nat) (mc : Int32) (f : Nat → Option Nat) (hl : A.1 l = some (xAl mc ed n)) (hE : A.1 ed = some (xQa 5 cap f)) (v ci : Nat) (vs : List Value) (cl1 : vw_C) (hv : xAt g A v (.inr (ci, vs))) (hc1 : xcl[ci]? = some cl1) (hw : cl1.1 = "java/lang/Object" ∨ Cond.castable cl1.1 "java/lang/Object" ∈ lw_tbl) (h11 : ci ≠ 11) (hn : n < cap) (hc : cap < 2 ^ 31) : xC g iJ2_add_2 1 [.ref l, .ref v, .ref ed, .int (nI n)] A (xRet none (ov A [(l, xAl mc ed (n + 1)), (ed, xQa 5 cap (va_up f n (some v)))])) := by
  show xW g _ _ 0 [some (.ref l), some (.ref v), some (.ref ed), some (.int (nI n))] [] _ _
  refine xW.at2 hl hE ?_
  have hD : ovD [l, ed] := ovD_2 (xdf hE hl xne_a')
  refine x_iload_n dJ2_add_2_0 rfl ?_
  refine x_aload_n dJ2_add_2_1 rfl ?_
  refine x_alen dJ2_add_2_2 (Or.inl (ov_at hD (i := 1) rfl)) (t := 5) rfl (v := nI cap) rfl ?_
  refine x_icmp_neT (tgt := 11) dJ2_add_2_3 (by decide) (fun h => by have := nI_inj (by omega) (by omega) h; omega) ?_
  refine x_aload_n dJ2_add_2_11 rfl ?_
  refine x_iload_n dJ2_add_2_12 rfl ?_
  refine x_aload_n dJ2_add_2_13 rfl ?_
  refine v_ast hD (i := 1) rfl dJ2_add_2_14 (t := 5) rfl (xAt_o2 hv hl hE (xne_c h11) xne_a) hc1 hw (vp_in_nI (n := n) (by omega) (by omega)) ?_
  rw [show (nI n).toNatClampNeg = n from nI_clamp (by omega)]
  refine x_aload_n dJ2_add_2_15 rfl ?_
  refine x_iload_n dJ2_add_2_16 rfl ?_
  refine x_iconst (v := 1) dJ2_add_2_17 rfl ?_
  refine x_iadd dJ2_add_2_18 ?_
  refine x_top (y := nI (n + 1)) (nI_add n 1) ?_
  refine v_put hD (i := 0) rfl fpJ2_48_11 dJ2_add_2_19 ⟨rfl, rfl⟩ (by exact Nat.le_of_ble_eq_true rfl) ?_
  exact x_return dJ2_add_2_22 rfl ⟨rfl, rfl⟩
theorem c_J2_add_2N (g : xG) (A : xA) (l ed n cap : Nat) (mc : Int32) (f : Nat → Option Nat) (hl : A.1 l = some (xAl mc ed n)) (hE : A.1 ed = some (xQa 5 cap f)) (hn : n < cap) (hc : cap < 2 ^ 31) : xC g iJ2_add_2 1 [.ref l, .null, .ref ed, .int (nI n)] A (xRet none (ov A [(l, xAl mc ed (n + 1)), (ed, xQa 5 cap (va_up f n none))])) := by
  show xW g _ _ 0 [some (.ref l), some (.null), some (.ref ed), some (.int (nI n))] [] _ _
  refine xW.at2 hl hE ?_
  have hD : ovD [l, ed] := ovD_2 (xdf hE hl xne_a')
  refine x_iload_n dJ2_add_2_0 rfl ?_
  refine x_aload_n dJ2_add_2_1 rfl ?_
  refine x_alen dJ2_add_2_2 (Or.inl (ov_at hD (i := 1) rfl)) (t := 5) rfl (v := nI cap) rfl ?_
  refine x_icmp_neT (tgt := 11) dJ2_add_2_3 (by decide) (fun h => by have := nI_inj (by omega) (by omega) h; omega) ?_
  refine x_aload_n dJ2_add_2_11 rfl ?_
  refine x_iload_n dJ2_add_2_12 rfl ?_
  refine x_aload_nN dJ2_add_2_13 rfl ?_
  refine v_astN hD (i := 1) rfl dJ2_add_2_14 (t := 5) rfl (vp_in_nI (n := n) (by omega) (by omega)) ?_
  rw [show (nI n).toNatClampNeg = n from nI_clamp (by omega)]
  refine x_aload_n dJ2_add_2_15 rfl ?_
  refine x_iload_n dJ2_add_2_16 rfl ?_
  refine x_iconst (v := 1) dJ2_add_2_17 rfl ?_
  refine x_iadd dJ2_add_2_18 ?_
  refine x_top (y := nI (n + 1)) (nI_add n 1) ?_
  refine v_put hD (i := 0) rfl fpJ2_48_11 dJ2_add_2_19 ⟨rfl, rfl⟩ (by exact Nat.le_of_ble_eq_true rfl) ?_
  exact x_return dJ2_add_2_22 rfl ⟨rfl, rfl⟩
theorem ov_pp {A : xA} {ws : List (Nat × xE)} {i j a b : Nat} {x y x0 y0 : xE} (hD : ovD (ws.map Prod.fst)) (hj : ws[j]? = some (b, y0)) (hi : (ws.set j (b, y))[i]? = some (a, x0)) (hD2 : ovD ((ws.set j (b, y)).map Prod.fst)) : ov (ov A ws) [(a, x), (b, y)] = ov A ((ws.set j (b, y)).set i (a, x)) := by
  show xup (xup (ov A ws) b y) a x = _
  rw [ov_up hD hj, ov_up hD2 hi]
theorem xbp_ov (A : xA) (n : Nat) (ws : List (Nat × xE)) : xbp (ov A ws) n = ov (xbp A n) ws := by
  refine Prod.ext (ov_bp1 A n ws).symm ?_
  show ((ov A ws).2.1 + 1, (ov A ws).2.2 + n) = (ov (xbp A n) ws).2
  rw [ov_2, ov_2]
  rfl
theorem ov_g1 {A : xA} {l n : Nat} {x y a : xE} : ov (xbp (ov A [(l, x)]) n) [((ov A [(l, x)]).2.1, a), (l, y)] = ov (xbp A n) [(A.2.1, a), (l, y)] := by
  rw [xbp_ov]
  show xup (xup (xup (xbp A n) l x) l y) A.2.1 a = xup (xup (xbp A n) l y) A.2.1 a
  rw [xup_xup]
theorem c_J2_add (g : xG) (A : xA) (l ed n cap : Nat) (mc : Int32) (f : Nat → Option Nat) (hl : A.1 l = some (xAl mc ed n)) (hE : A.1 ed = some (xQa 5 cap f)) (v ci : Nat) (vs : List Value) (cl1 : vw_C) (hv : xAt g A v (.inr (ci, vs))) (hc1 : xcl[ci]? = some cl1) (hw : cl1.1 = "java/lang/Object" ∨ Cond.castable cl1.1 "java/lang/Object" ∈ lw_tbl) (h11 : ci ≠ 11) (hn : n < cap) (hc : cap < 2 ^ 31) : xC g iJ2_add 2 [.ref l, .ref v] A (xRet (some (.int 1)) (ov A [(l, xAl (mc + 1) ed (n + 1)), (ed, xQa 5 cap (va_up f n (some v)))])) := by
  show xW g _ _ 0 [some (.ref l), some (.ref v)] [] _ _
  refine xW.at2 hl hE ?_
  have hD : ovD [l, ed] := ovD_2 (xdf hE hl xne_a')
  refine x_aload_n dJ2_add_0 rfl ?_
  refine x_dup dJ2_add_1 rfl ?_
  refine x_get fgJ2_63_11 dJ2_add_2 (Or.inl (ov_at hD (i := 0) rfl)) rfl ?_
  refine x_iconst (v := 1) dJ2_add_5 rfl ?_
  refine x_iadd dJ2_add_6 ?_
  refine v_put hD (i := 0) rfl fpJ2_63_11 dJ2_add_7 ⟨rfl, rfl⟩ (by exact Nat.le_of_ble_eq_true rfl) ?_
  refine x_aload_n dJ2_add_10 rfl ?_
  refine x_aload_n dJ2_add_11 rfl ?_
  refine x_aload_n dJ2_add_12 rfl ?_
  refine x_get fgJ2_9_11 dJ2_add_13 (Or.inl (ov_at hD (i := 0) rfl)) rfl ?_
  refine x_aload_n dJ2_add_16 rfl ?_
  refine x_get fgJ2_48_11 dJ2_add_17 (Or.inl (ov_at hD (i := 0) rfl)) rfl ?_
  refine x_cvN (q := (RJ2, TJ2, 3)) cvJ2_131_J2 dJ2_add_20 (Or.inl (ov_at hD (i := 0) rfl)) rfl (c_J2_add_2 _ _ _ _ n _ _ _ (by exact ov_at hD (i := 0) rfl) (by exact ov_at hD (i := 1) rfl) v ci vs cl1 (xAt_o2 hv hl hE (xne_c h11) xne_a) hc1 hw h11 (by omega) (by omega)) rfl ?_
  refine xW.eqA (ov_pp hD (i := 0) (j := 1) rfl rfl hD) ?_
  refine x_iconst (v := 1) dJ2_add_23 rfl ?_
  exact x_ireturn dJ2_add_24 rfl rfl ⟨rfl, rfl⟩
theorem c_J2_addN (g : xG) (A : xA) (l ed n cap : Nat) (mc : Int32) (f : Nat → Option Nat) (hl : A.1 l = some (xAl mc ed n)) (hE : A.1 ed = some (xQa 5 cap f)) (hn : n < cap) (hc : cap < 2 ^ 31) : xC g iJ2_add 2 [.ref l, .null] A (xRet (some (.int 1)) (ov A [(l, xAl (mc + 1) ed (n + 1)), (ed, xQa 5 cap (va_up f n none))])) := by
  show xW g _ _ 0 [some (.ref l), some (.null)] [] _ _
  refine xW.at2 hl hE ?_
  have hD : ovD [l, ed] := ovD_2 (xdf hE hl xne_a')
  refine x_aload_n dJ2_add_0 rfl ?_
  refine x_dup dJ2_add_1 rfl ?_
  refine x_get fgJ2_63_11 dJ2_add_2 (Or.inl (ov_at hD (i := 0) rfl)) rfl ?_
  refine x_iconst (v := 1) dJ2_add_5 rfl ?_
  refine x_iadd dJ2_add_6 ?_
  refine v_put hD (i := 0) rfl fpJ2_63_11 dJ2_add_7 ⟨rfl, rfl⟩ (by exact Nat.le_of_ble_eq_true rfl) ?_
  refine x_aload_n dJ2_add_10 rfl ?_
  refine x_aload_nN dJ2_add_11 rfl ?_
  refine x_aload_n dJ2_add_12 rfl ?_
  refine x_get fgJ2_9_11 dJ2_add_13 (Or.inl (ov_at hD (i := 0) rfl)) rfl ?_
  refine x_aload_n dJ2_add_16 rfl ?_
  refine x_get fgJ2_48_11 dJ2_add_17 (Or.inl (ov_at hD (i := 0) rfl)) rfl ?_
  refine x_cvN (q := (RJ2, TJ2, 3)) cvJ2_131_J2 dJ2_add_20 (Or.inl (ov_at hD (i := 0) rfl)) rfl (c_J2_add_2N _ _ _ _ n _ _ _ (by exact ov_at hD (i := 0) rfl) (by exact ov_at hD (i := 1) rfl) (by omega) (by omega)) rfl ?_
  refine xW.eqA (ov_pp hD (i := 0) (j := 1) rfl rfl hD) ?_
  refine x_iconst (v := 1) dJ2_add_23 rfl ?_
  exact x_ireturn dJ2_add_24 rfl rfl ⟨rfl, rfl⟩
theorem c_J2_grow0 (g : xG) (A : xA) (E : Nat → Nat) (hg : gW g E) (l : Nat) (mc : Int32) (hl : A.1 l = some (xAl mc (E 0) 0)) (hlt : l < A.2.1) : xC g iJ2_grow_2 1 [.ref l, .int 1] A (xRet (some (.ref A.2.1)) (ov (xbp A 10) [(A.2.1, xQa 5 10 fun _ => none), (l, xAl mc A.2.1 0)])) := by
  show xW g _ _ 0 [some (.ref l), some (.int 1), none, none] [] _ _
  refine xW.at1 hl ?_
  have hD : ovD [l] := ovD_1
  have hL : ovL A.2.1 [l] := fun b hb => by simp at hb; omega
  refine x_aload_n dJ2_grow_2_0 rfl ?_
  refine x_get fgJ2_9_11 dJ2_grow_2_1 (Or.inl (ov_at hD (i := 0) rfl)) rfl ?_
  refine x_alen dJ2_grow_2_4 (Or.inr hg.2.1.2) (t := 5) rfl (v := 0) rfl ?_
  refine x_istore_n dJ2_grow_2_5 (by decide) rfl ?_
  refine x_iload_n dJ2_grow_2_6 rfl ?_
  refine x_if_gtF dJ2_grow_2_7 20 (by decide) (by decide) ?_
  refine x_aload_n dJ2_grow_2_10 rfl ?_
  refine x_get fgJ2_9_11 dJ2_grow_2_11 (Or.inl (ov_at hD (i := 0) rfl)) rfl ?_
  refine x_gets hg.2.1.1 q229 (Or.inl rfl) dJ2_grow_2_14 ?_
  refine x_acmp_eqT (rx := some ((E 0))) (ry := some ((E 0))) dJ2_grow_2_17 (tgt := 45) (by decide) rfl ?_
  refine x_aload_n dJ2_grow_2_45 rfl ?_
  refine x_bipush (v := 10) dJ2_grow_2_46 (by decide) ?_
  refine x_iload_n dJ2_grow_2_48 rfl ?_
  refine x_csV csJ2_79 dJ2_grow_2_49 (c_J18_max _ _ _ _) rfl ?_
  refine x_top (y := 10) (by decide) ?_
  refine v_newq (t := 5) rfl q1313 q1310 dJ2_grow_2_52 (by decide) (N' := 10) (by decide) (by decide) ?_
  have hD1_1 := ovD_cons hL hD
  have hL1_1 := ovL_cons hL
  refine x_dup_x1 dJ2_grow_2_55 rfl rfl ?_
  refine v_put hD1_1 (i := 1) rfl fpJ2_9_11 dJ2_grow_2_56 ⟨rfl, rfl⟩ (by exact Nat.le_of_ble_eq_true rfl) ?_
  exact x_areturn dJ2_grow_2_59 rfl (Or.inr ⟨_, rfl⟩) (Or.inr ⟨_, rfl⟩) ⟨rfl, rfl⟩
theorem c_J2_grow (g : xG) (A : xA) (E : Nat → Nat) (hg : gW g E) (l : Nat) (mc : Int32) (hl : A.1 l = some (xAl mc (E 0) 0)) (hlt : l < A.2.1) : xC g iJ2_grow 2 [.ref l] A (xRet (some (.ref A.2.1)) (ov (xbp A 10) [(A.2.1, xQa 5 10 fun _ => none), (l, xAl mc A.2.1 0)])) := by
  show xW g _ _ 0 [some (.ref l)] [] _ _
  refine xW.at1 hl ?_
  have hD : ovD [l] := ovD_1
  have hL : ovL A.2.1 [l] := fun b hb => by simp at hb; omega
  refine x_aload_n dJ2_grow_0 rfl ?_
  refine x_aload_n dJ2_grow_1 rfl ?_
  refine x_get fgJ2_48_11 dJ2_grow_2 (Or.inl (ov_at hD (i := 0) rfl)) rfl ?_
  refine x_iconst (v := 1) dJ2_grow_5 rfl ?_
  refine x_iadd dJ2_grow_6 ?_
  refine x_top (y := nI (1)) (nI_add 0 1) ?_
  refine x_cvV (q := (RJ2, TJ2, 3)) cvJ2_69_J2 dJ2_grow_7 (Or.inl (ov_at hD (i := 0) rfl)) rfl (c_J2_grow0 _ _ E hg _ _ (by exact ov_at hD (i := 0) rfl) (by rw [ov_2]; exact hlt)) rfl ?_
  refine xW.eqA ov_g1 ?_
  have hD1_1 := ovD_cons hL hD
  have hL1_1 := ovL_cons hL
  exact x_areturn dJ2_grow_10 rfl (Or.inr ⟨_, rfl⟩) (Or.inr ⟨_, rfl⟩) ⟨rfl, rfl⟩
theorem xAt_g1 {g : xG} {A : xA} {a l n : Nat} {e x y : xE} {el : xE} (hok : xOk g A) (h : xAt g A a e) (hl : A.1 l = some el) (h1 : e ≠ el) : xAt g (ov (xbp A n) [(A.2.1, x), (l, y)]) a e := by
  rcases h with h | h
  · refine Or.inl ?_
    show (xup (xup (xbp A n) l y) A.2.1 x).1 a = some e
    rw [xup_ne (Nat.ne_of_lt (hok.2 a e h).2), xup_ne (xdf h hl h1)]
    exact h
  · exact Or.inr h
theorem c_J2_add20 (g : xG) (A : xA) (E : Nat → Nat) (hg : gW g E) (l : Nat) (mc : Int32) (hl : A.1 l = some (xAl mc (E 0) 0)) (hlt : l < A.2.1) (v ci : Nat) (vs : List Value) (cl1 : vw_C) (hv : xAt g A v (.inr (ci, vs))) (hc1 : xcl[ci]? = some cl1) (hw : cl1.1 = "java/lang/Object" ∨ Cond.castable cl1.1 "java/lang/Object" ∈ lw_tbl) (h11 : ci ≠ 11) : xC g iJ2_add_2 3 [.ref l, .ref v, .ref ((E 0)), .int 0] A (xRet none (ov (xbp A 10) [(A.2.1, xQa 5 10 (va_up (fun _ => none) 0 (some v))), (l, xAl mc A.2.1 1)])) := by
  refine xW.ok (fun hok => ?_)
  show xW g _ _ 0 [some (.ref l), some (.ref v), some (.ref ((E 0))), some (.int 0)] [] _ _
  refine xW.at1 hl ?_
  have hD : ovD [l] := ovD_1
  have hL : ovL A.2.1 [l] := fun b hb => by simp at hb; omega
  have hv9 : xAt g (ov (xbp A 10) [(A.2.1, xQa 5 10 fun _ => none), (l, xAl mc A.2.1 0)]) v (.inr (ci, vs)) := xAt_g1 hok hv hl (xne_c h11)
  refine x_iload_n dJ2_add_2_0 rfl ?_
  refine x_aload_n dJ2_add_2_1 rfl ?_
  refine x_alen dJ2_add_2_2 (Or.inr hg.2.1.2) (t := 5) rfl (v := 0) rfl ?_
  refine x_icmp_neF dJ2_add_2_3 11 (by decide) rfl ?_
  refine x_aload_n dJ2_add_2_6 rfl ?_
  refine x_cvV (q := (RJ2, TJ2, 3)) cvJ2_129_J2 dJ2_add_2_7 (Or.inl (ov_at hD (i := 0) rfl)) rfl (c_J2_grow _ _ E hg _ _ (by exact ov_at hD (i := 0) rfl) (by rw [ov_2]; exact hlt)) rfl ?_
  refine xW.eqA ov_g1 ?_
  have hD1_1 := ovD_cons hL hD
  have hL1_1 := ovL_cons hL
  refine x_astore_n dJ2_add_2_10 (by decide) rfl ?_
  refine x_aload_n dJ2_add_2_11 rfl ?_
  refine x_iload_n dJ2_add_2_12 rfl ?_
  refine x_aload_n dJ2_add_2_13 rfl ?_
  refine v_ast hD1_1 (i := 0) rfl dJ2_add_2_14 (t := 5) rfl hv9 hc1 hw (vp_in_nI (n := 0) (by omega) (by omega)) ?_
  rw [show Int32.toNatClampNeg 0 = 0 from by decide]
  refine x_aload_n dJ2_add_2_15 rfl ?_
  refine x_iload_n dJ2_add_2_16 rfl ?_
  refine x_iconst (v := 1) dJ2_add_2_17 rfl ?_
  refine x_iadd dJ2_add_2_18 ?_
  refine x_top (y := nI (1)) (nI_add 0 1) ?_
  refine v_put hD1_1 (i := 1) rfl fpJ2_48_11 dJ2_add_2_19 ⟨rfl, rfl⟩ (by exact Nat.le_of_ble_eq_true rfl) ?_
  exact x_return dJ2_add_2_22 rfl ⟨rfl, rfl⟩
theorem c_J2_add20N (g : xG) (A : xA) (E : Nat → Nat) (hg : gW g E) (l : Nat) (mc : Int32) (hl : A.1 l = some (xAl mc (E 0) 0)) (hlt : l < A.2.1) : xC g iJ2_add_2 3 [.ref l, .null, .ref ((E 0)), .int 0] A (xRet none (ov (xbp A 10) [(A.2.1, xQa 5 10 (va_up (fun _ => none) 0 (none))), (l, xAl mc A.2.1 1)])) := by
  show xW g _ _ 0 [some (.ref l), some (.null), some (.ref ((E 0))), some (.int 0)] [] _ _
  refine xW.at1 hl ?_
  have hD : ovD [l] := ovD_1
  have hL : ovL A.2.1 [l] := fun b hb => by simp at hb; omega
  refine x_iload_n dJ2_add_2_0 rfl ?_
  refine x_aload_n dJ2_add_2_1 rfl ?_
  refine x_alen dJ2_add_2_2 (Or.inr hg.2.1.2) (t := 5) rfl (v := 0) rfl ?_
  refine x_icmp_neF dJ2_add_2_3 11 (by decide) rfl ?_
  refine x_aload_n dJ2_add_2_6 rfl ?_
  refine x_cvV (q := (RJ2, TJ2, 3)) cvJ2_129_J2 dJ2_add_2_7 (Or.inl (ov_at hD (i := 0) rfl)) rfl (c_J2_grow _ _ E hg _ _ (by exact ov_at hD (i := 0) rfl) (by rw [ov_2]; exact hlt)) rfl ?_
  refine xW.eqA ov_g1 ?_
  have hD1_1 := ovD_cons hL hD
  have hL1_1 := ovL_cons hL
  refine x_astore_n dJ2_add_2_10 (by decide) rfl ?_
  refine x_aload_n dJ2_add_2_11 rfl ?_
  refine x_iload_n dJ2_add_2_12 rfl ?_
  refine x_aload_nN dJ2_add_2_13 rfl ?_
  refine v_astN hD1_1 (i := 0) rfl dJ2_add_2_14 (t := 5) rfl (vp_in_nI (n := 0) (by omega) (by omega)) ?_
  rw [show Int32.toNatClampNeg 0 = 0 from by decide]
  refine x_aload_n dJ2_add_2_15 rfl ?_
  refine x_iload_n dJ2_add_2_16 rfl ?_
  refine x_iconst (v := 1) dJ2_add_2_17 rfl ?_
  refine x_iadd dJ2_add_2_18 ?_
  refine x_top (y := nI (1)) (nI_add 0 1) ?_
  refine v_put hD1_1 (i := 1) rfl fpJ2_48_11 dJ2_add_2_19 ⟨rfl, rfl⟩ (by exact Nat.le_of_ble_eq_true rfl) ?_
  exact x_return dJ2_add_2_22 rfl ⟨rfl, rfl⟩
theorem ov_g2 {A : xA} {l n : Nat} {x y a : xE} : ov (xbp (ov A [(l, x)]) n) [((ov A [(l, x)]).2.1, a), (l, y)] = ov (xbp A n) [(A.2.1, a), (l, y)] := ov_g1
theorem c_J2_add0 (g : xG) (A : xA) (E : Nat → Nat) (hg : gW g E) (l : Nat) (mc : Int32) (hl : A.1 l = some (xAl mc (E 0) 0)) (hlt : l < A.2.1) (v ci : Nat) (vs : List Value) (cl1 : vw_C) (hv : xAt g A v (.inr (ci, vs))) (hc1 : xcl[ci]? = some cl1) (hw : cl1.1 = "java/lang/Object" ∨ Cond.castable cl1.1 "java/lang/Object" ∈ lw_tbl) (h11 : ci ≠ 11) : xC g iJ2_add 4 [.ref l, .ref v] A (xRet (some (.int 1)) (ov (xbp A 10) [(A.2.1, xQa 5 10 (va_up (fun _ => none) 0 (some v))), (l, xAl (mc + 1) A.2.1 1)])) := by
  show xW g _ _ 0 [some (.ref l), some (.ref v)] [] _ _
  refine xW.at1 hl ?_
  have hD : ovD [l] := ovD_1
  refine x_aload_n dJ2_add_0 rfl ?_
  refine x_dup dJ2_add_1 rfl ?_
  refine x_get fgJ2_63_11 dJ2_add_2 (Or.inl (ov_at hD (i := 0) rfl)) rfl ?_
  refine x_iconst (v := 1) dJ2_add_5 rfl ?_
  refine x_iadd dJ2_add_6 ?_
  refine v_put hD (i := 0) rfl fpJ2_63_11 dJ2_add_7 ⟨rfl, rfl⟩ (by exact Nat.le_of_ble_eq_true rfl) ?_
  refine x_aload_n dJ2_add_10 rfl ?_
  refine x_aload_n dJ2_add_11 rfl ?_
  refine x_aload_n dJ2_add_12 rfl ?_
  refine x_get fgJ2_9_11 dJ2_add_13 (Or.inl (ov_at hD (i := 0) rfl)) rfl ?_
  refine x_aload_n dJ2_add_16 rfl ?_
  refine x_get fgJ2_48_11 dJ2_add_17 (Or.inl (ov_at hD (i := 0) rfl)) rfl ?_
  refine x_cvN (q := (RJ2, TJ2, 3)) cvJ2_131_J2 dJ2_add_20 (Or.inl (ov_at hD (i := 0) rfl)) rfl (c_J2_add20 _ _ E hg _ _ (by exact ov_at hD (i := 0) rfl) (by rw [ov_2]; exact hlt) v ci vs cl1 (xAt_ov hv (fun k b hb => by simp at hb; subst hb; exact xdf k hl (xne_c h11))) hc1 hw h11) rfl ?_
  refine xW.eqA ov_g1 ?_
  refine x_iconst (v := 1) dJ2_add_23 rfl ?_
  exact x_ireturn dJ2_add_24 rfl rfl ⟨rfl, rfl⟩
theorem c_J2_add0N (g : xG) (A : xA) (E : Nat → Nat) (hg : gW g E) (l : Nat) (mc : Int32) (hl : A.1 l = some (xAl mc (E 0) 0)) (hlt : l < A.2.1) : xC g iJ2_add 4 [.ref l, .null] A (xRet (some (.int 1)) (ov (xbp A 10) [(A.2.1, xQa 5 10 (va_up (fun _ => none) 0 (none))), (l, xAl (mc + 1) A.2.1 1)])) := by
  show xW g _ _ 0 [some (.ref l), some (.null)] [] _ _
  refine xW.at1 hl ?_
  have hD : ovD [l] := ovD_1
  refine x_aload_n dJ2_add_0 rfl ?_
  refine x_dup dJ2_add_1 rfl ?_
  refine x_get fgJ2_63_11 dJ2_add_2 (Or.inl (ov_at hD (i := 0) rfl)) rfl ?_
  refine x_iconst (v := 1) dJ2_add_5 rfl ?_
  refine x_iadd dJ2_add_6 ?_
  refine v_put hD (i := 0) rfl fpJ2_63_11 dJ2_add_7 ⟨rfl, rfl⟩ (by exact Nat.le_of_ble_eq_true rfl) ?_
  refine x_aload_n dJ2_add_10 rfl ?_
  refine x_aload_nN dJ2_add_11 rfl ?_
  refine x_aload_n dJ2_add_12 rfl ?_
  refine x_get fgJ2_9_11 dJ2_add_13 (Or.inl (ov_at hD (i := 0) rfl)) rfl ?_
  refine x_aload_n dJ2_add_16 rfl ?_
  refine x_get fgJ2_48_11 dJ2_add_17 (Or.inl (ov_at hD (i := 0) rfl)) rfl ?_
  refine x_cvN (q := (RJ2, TJ2, 3)) cvJ2_131_J2 dJ2_add_20 (Or.inl (ov_at hD (i := 0) rfl)) rfl (c_J2_add20N _ _ E hg _ _ (by exact ov_at hD (i := 0) rfl) (by rw [ov_2]; exact hlt)) rfl ?_
  refine xW.eqA ov_g1 ?_
  refine x_iconst (v := 1) dJ2_add_23 rfl ?_
  exact x_ireturn dJ2_add_24 rfl rfl ⟨rfl, rfl⟩
theorem c_J2_set (g : xG) (A : xA) (l ed n cap : Nat) (mc : Int32) (f : Nat → Option Nat) (hl : A.1 l = some (xAl mc ed n)) (hE : A.1 ed = some (xQa 5 cap f)) (v ci : Nat) (vs : List Value) (cl1 : vw_C) (hv : xAt g A v (.inr (ci, vs))) (hc1 : xcl[ci]? = some cl1) (hw : cl1.1 = "java/lang/Object" ∨ Cond.castable cl1.1 "java/lang/Object" ∈ lw_tbl) (h11 : ci ≠ 11) (i : Nat) (hi : i < n) (hn : n ≤ cap) (hc : cap < 2 ^ 31) : xC g iJ2_set 2 [.ref l, .int (nI i), .ref v] A (xRet (some (va_rf (f i))) (ov A [(l, xAl mc ed n), (ed, xQa 5 cap (va_up f i (some v)))])) := by
  show xW g _ _ 0 [some (.ref l), some (.int (nI i)), some (.ref v), none] [] _ _
  refine xW.at2 hl hE ?_
  have hD : ovD [l, ed] := ovD_2 (xdf hE hl xne_a')
  refine x_iload_n dJ2_set_0 rfl ?_
  refine x_aload_n dJ2_set_1 rfl ?_
  refine x_get fgJ2_48_11 dJ2_set_2 (Or.inl (ov_at hD (i := 0) rfl)) rfl ?_
  refine x_csV csJ2_118 dJ2_set_5 (c_J30_checkIndex _ _ i n (by omega) (by omega)) rfl ?_
  refine x_pop dJ2_set_8 rfl ?_
  refine x_aload_n dJ2_set_9 rfl ?_
  refine x_iload_n dJ2_set_10 rfl ?_
  refine x_cvV (q := (RJ2, TJ2, 3)) cvJ2_123_J2 dJ2_set_11 (Or.inl (ov_at hD (i := 0) rfl)) rfl (c_J2_elementData _ _ _ _ _ _ _ _ (by exact Or.inl (ov_at hD (i := 0) rfl)) (by exact Or.inl (ov_at hD (i := 1) rfl)) i (by omega) (by omega)) rfl ?_
  refine x_astore_nq dJ2_set_14 (by decide) rfl ?_
  refine x_aload_n dJ2_set_15 rfl ?_
  refine x_get fgJ2_9_11 dJ2_set_16 (Or.inl (ov_at hD (i := 0) rfl)) rfl ?_
  refine x_iload_n dJ2_set_19 rfl ?_
  refine x_aload_n dJ2_set_20 rfl ?_
  refine v_ast hD (i := 1) rfl dJ2_set_21 (t := 5) rfl (xAt_o2 hv hl hE (xne_c h11) xne_a) hc1 hw (vp_in_nI (n := i) (by omega) (by omega)) ?_
  rw [show (nI i).toNatClampNeg = i from nI_clamp (by omega)]
  refine x_aload_nq dJ2_set_22 rfl ?_
  exact x_areturn dJ2_set_23 rfl (Or.inl ⟨_, rfl⟩) (va_rf_or _) ⟨rfl, rfl⟩
theorem va_cpy_n {f : Nat → Option Nat} {i n : Nat} (hi : i < n) (j : Nat) (hj : j < n - 1) : va_up (va_cpy f f (i + 1) i (n - 1 - i)) (n - 1) none j = if j < i then f j else f (j + 1) := by
  unfold va_up va_cpy
  rw [if_neg (by omega)]
  by_cases h : j < i
  · rw [if_neg (by omega), if_pos h]
  · rw [if_pos (by omega), if_neg h]
    congr 1
    omega
theorem va_cpy_z {f : Nat → Option Nat} {i n : Nat} (hi : i + 1 = n) (j : Nat) (hj : j < n - 1) : va_up f (n - 1) none j = if j < i then f j else f (j + 1) := by
  unfold va_up
  rw [if_neg (by omega), if_pos (by omega)]
theorem xCpW_J2 : xCpW "java/util/ArrayList" 112 := ⟨q2796, q454, q453, q153⟩
theorem c_J2_fastRemove (g : xG) (A : xA) (l ed n cap : Nat) (mc : Int32) (f : Nat → Option Nat) (hl : A.1 l = some (xAl mc ed n)) (hE : A.1 ed = some (xQa 5 cap f)) (i : Nat) (hi : i < n) (hn : n ≤ cap) (hc : cap < 2 ^ 31) (hel : ∀ j, j < n → ∃ (y ci : Nat) (vs : List Value) (cl1 : vw_C), f j = some y ∧ xAt g A y (.inr (ci, vs)) ∧ xcl[ci]? = some cl1 ∧ (cl1.1 = "java/lang/Object" ∨ Cond.castable cl1.1 "java/lang/Object" ∈ lw_tbl) ∧ ci ≠ 11) : xC g iJ2_fastRemove 1 [.ref l, .ref ed, .int (nI i)] A (xRs fun v A' => v = none ∧ ∃ f', (∀ j, j < n - 1 → f' j = if j < i then f j else f (j + 1)) ∧ A' = ov A [(l, xAl (mc + 1) ed (n - 1)), (ed, xQa 5 cap f')]) := by
  show xW g _ _ 0 [some (.ref l), some (.ref ed), some (.int (nI i)), none] [] _ _
  refine xW.at2 hl hE ?_
  have hD : ovD [l, ed] := ovD_2 (xdf hE hl xne_a')
  refine x_aload_n dJ2_fastRemove_0 rfl ?_
  refine x_dup dJ2_fastRemove_1 rfl ?_
  refine x_get fgJ2_63_11 dJ2_fastRemove_2 (Or.inl (ov_at hD (i := 0) rfl)) rfl ?_
  refine x_iconst (v := 1) dJ2_fastRemove_5 rfl ?_
  refine x_iadd dJ2_fastRemove_6 ?_
  refine v_put hD (i := 0) rfl fpJ2_63_11 dJ2_fastRemove_7 ⟨rfl, rfl⟩ (by exact Nat.le_of_ble_eq_true rfl) ?_
  refine x_aload_n dJ2_fastRemove_10 rfl ?_
  refine x_get fgJ2_48_11 dJ2_fastRemove_11 (Or.inl (ov_at hD (i := 0) rfl)) rfl ?_
  refine x_iconst (v := 1) dJ2_fastRemove_14 rfl ?_
  refine x_isub dJ2_fastRemove_15 ?_
  refine x_top (y := nI (n - 1)) (pk_sub (a := n) (b := 1) (by omega)) ?_
  refine x_dup dJ2_fastRemove_16 rfl ?_
  refine x_istore_n dJ2_fastRemove_17 (by decide) rfl ?_
  refine x_iload_n dJ2_fastRemove_18 rfl ?_
  refine x_icmp_le 34 dJ2_fastRemove_19 (by decide) (fun c19 => ?_) (fun c19 => ?_)
  · refine x_aload_n dJ2_fastRemove_34 rfl ?_
    refine x_aload_n dJ2_fastRemove_35 rfl ?_
    refine x_iload_n dJ2_fastRemove_36 rfl ?_
    refine x_dup_x1 dJ2_fastRemove_37 rfl rfl ?_
    refine v_put hD (i := 0) rfl fpJ2_48_11 dJ2_fastRemove_38 ⟨rfl, rfl⟩ (by exact Nat.le_of_ble_eq_true rfl) ?_
    refine x_null dJ2_fastRemove_41 ?_
    refine v_astN hD (i := 1) rfl dJ2_fastRemove_42 (t := 5) rfl (vp_in_nI (n := (n - 1)) (by omega) (by omega)) ?_
    rw [show (nI (n - 1)).toNatClampNeg = n - 1 from nI_clamp (by omega)]
    exact x_return dJ2_fastRemove_43 rfl ⟨_, rfl, rfl, _, fun j hj => va_cpy_z (by rw [nI_leI (by omega) (by omega)] at c19; omega) j hj, rfl⟩
  · rw [nI_leI (by omega) (by omega)] at c19
    refine x_aload_n dJ2_fastRemove_22 rfl ?_
    refine x_iload_n dJ2_fastRemove_23 rfl ?_
    refine x_iconst (v := 1) dJ2_fastRemove_24 rfl ?_
    refine x_iadd dJ2_fastRemove_25 ?_
    refine x_top (y := nI (i + 1)) (nI_add i 1) ?_
    refine x_aload_n dJ2_fastRemove_26 rfl ?_
    refine x_iload_n dJ2_fastRemove_27 rfl ?_
    refine x_iload_n dJ2_fastRemove_28 rfl ?_
    refine x_iload_n dJ2_fastRemove_29 rfl ?_
    refine x_isub dJ2_fastRemove_30 ?_
    refine x_top (y := nI (n - 1 - i)) (pk_sub (a := n - 1) (b := i) (by omega)) ?_
    refine x_copyq (t0 := 5) (t := 5) xCpW_J2 rfl rfl (Or.inl (ov_at hD (i := 1) rfl)) (ov_at hD (i := 1) rfl) (nI_pos (by omega)) (nI_pos (by omega)) (nI_pos (by omega)) (by rw [nI_clamp (by omega), nI_clamp (by omega)]; omega) (by rw [nI_clamp (by omega), nI_clamp (by omega)]; omega) (fun i' hi' y hy => ?_) (by decide) (by exact Nat.le_of_ble_eq_true rfl) dJ2_fastRemove_31 ?_
    · rw [nI_clamp (by omega)] at hi' hy
      obtain ⟨y', ci, vs, cl1, e1, e2, e3, e4, e5⟩ := hel (i + 1 + i') (by omega)
      rw [e1] at hy
      cases hy
      exact ⟨ci, vs, cl1, xAt_o2 e2 hl hE (xne_c e5) xne_a, e3, e4⟩
    rw [nI_clamp (n := i + 1) (by omega), nI_clamp (n := i) (by omega), nI_clamp (n := n - 1 - i) (by omega)]
    refine xW.eqA (ov_up hD (i := 1) rfl) ?_
    refine x_aload_n dJ2_fastRemove_34 rfl ?_
    refine x_aload_n dJ2_fastRemove_35 rfl ?_
    refine x_iload_n dJ2_fastRemove_36 rfl ?_
    refine x_dup_x1 dJ2_fastRemove_37 rfl rfl ?_
    refine v_put hD (i := 0) rfl fpJ2_48_11 dJ2_fastRemove_38 ⟨rfl, rfl⟩ (by exact Nat.le_of_ble_eq_true rfl) ?_
    refine x_null dJ2_fastRemove_41 ?_
    refine v_astN hD (i := 1) rfl dJ2_fastRemove_42 (t := 5) rfl (vp_in_nI (n := (n - 1)) (by omega) (by omega)) ?_
    rw [show (nI (n - 1)).toNatClampNeg = n - 1 from nI_clamp (by omega)]
    exact x_return dJ2_fastRemove_43 rfl ⟨_, rfl, rfl, _, fun j hj => va_cpy_n hi j hj, rfl⟩
theorem c_J2_remove (g : xG) (A : xA) (l ed n cap : Nat) (mc : Int32) (f : Nat → Option Nat) (hl : A.1 l = some (xAl mc ed n)) (hE : A.1 ed = some (xQa 5 cap f)) (i : Nat) (hi : i < n) (hn : n ≤ cap) (hc : cap < 2 ^ 31) (hel : ∀ j, j < n → ∃ (y ci : Nat) (vs : List Value) (cl1 : vw_C), f j = some y ∧ xAt g A y (.inr (ci, vs)) ∧ xcl[ci]? = some cl1 ∧ (cl1.1 = "java/lang/Object" ∨ Cond.castable cl1.1 "java/lang/Object" ∈ lw_tbl) ∧ ci ≠ 11) (y : Nat) (hy : f i = some y) : xC g iJ2_remove 2 [.ref l, .int (nI i)] A (xRs fun v A' => v = some (.ref y) ∧ ∃ f', (∀ j, j < n - 1 → f' j = if j < i then f j else f (j + 1)) ∧ A' = ov A [(l, xAl (mc + 1) ed (n - 1)), (ed, xQa 5 cap f')]) := by
  show xW g _ _ 0 [some (.ref l), some (.int (nI i)), none, none] [] _ _
  refine x_iload_n dJ2_remove_0 rfl ?_
  refine x_aload_n dJ2_remove_1 rfl ?_
  refine x_get fgJ2_48_11 dJ2_remove_2 (Or.inl hl) rfl ?_
  refine x_csV csJ2_118 dJ2_remove_5 (c_J30_checkIndex _ _ i n (by omega) (by omega)) rfl ?_
  refine x_pop dJ2_remove_8 rfl ?_
  refine x_aload_n dJ2_remove_9 rfl ?_
  refine x_get fgJ2_9_11 dJ2_remove_10 (Or.inl hl) rfl ?_
  refine x_astore_n dJ2_remove_13 (by decide) rfl ?_
  refine x_aload_n dJ2_remove_14 rfl ?_
  refine x_iload_n dJ2_remove_15 rfl ?_
  refine x_ald dJ2_remove_16 (t := 5) rfl (Or.inl hE) (vp_in_nI (n := i) (by omega) (by omega)) ?_
  refine x_topv (show va_rf (f (nI i).toNatClampNeg) = .ref y by rw [nI_clamp (by omega), hy]; rfl) ?_
  refine x_astore_n dJ2_remove_17 (by decide) rfl ?_
  refine x_aload_n dJ2_remove_18 rfl ?_
  refine x_aload_n dJ2_remove_19 rfl ?_
  refine x_iload_n dJ2_remove_20 rfl ?_
  refine v_cvE (q := (RJ2, TJ2, 3)) cvJ2_144_J2 dJ2_remove_21 (Or.inl hl) rfl (c_J2_fastRemove _ _ l ed n cap mc f hl hE i hi hn hc hel) rfl (fun v A1 hP => ?_)
  obtain ⟨rfl, f', hf, rfl⟩ := hP
  refine x_aload_n dJ2_remove_24 rfl ?_
  exact x_areturn dJ2_remove_25 rfl (Or.inl ⟨_, rfl⟩) (Or.inr ⟨_, rfl⟩) ⟨_, rfl, rfl, f', hf, rfl⟩
def clF (k : Nat) (f : Nat → Option Nat) : Nat → Option Nat := fun j => if j < k then none else f j
theorem clF_0 (f : Nat → Option Nat) : clF 0 f = f := funext fun j => if_neg (by omega)
theorem clF_1 (k : Nat) (f : Nat → Option Nat) : va_up (clF k f) k none = clF (k + 1) f := by
  funext j
  unfold va_up clF
  by_cases h : j = k
  · rw [if_pos h, if_pos (by omega)]
  · rw [if_neg h]
    by_cases h2 : j < k
    · rw [if_pos h2, if_pos (by omega)]
    · rw [if_neg h2, if_neg (by omega)]
theorem cl_l (g : xG) (A : xA) (l ed n cap : Nat) (mc : Int32) (f : Nat → Option Nat) (hD : ovD [l, ed]) (hn : n ≤ cap) (hc : cap < 2 ^ 31) : ∀ m k, m + k = n → xW g iJ2_clear 0 27 [some (.ref l), some (.ref ed), some (.int (nI n)), some (.int (nI k))] [] (ov A [(l, xAl mc ed 0), (ed, xQa 5 cap (clF k f))]) (xRet none (ov A [(l, xAl mc ed 0), (ed, xQa 5 cap (clF n f))])) := by
  intro m
  induction m with
  | zero =>
    intro k hk
    have e : k = n := by omega
    subst e
    refine x_iload_n dJ2_clear_27 rfl ?_
    refine x_iload_n dJ2_clear_28 rfl ?_
    refine x_icmp_geT (tgt := 42) dJ2_clear_29 (by decide) (nI_le (Nat.le_refl _) (by omega)) ?_
    exact x_return dJ2_clear_42 rfl ⟨rfl, rfl⟩
  | succ m ih =>
    intro k hk
    refine x_iload_n dJ2_clear_27 rfl ?_
    refine x_iload_n dJ2_clear_28 rfl ?_
    refine x_icmp_geF dJ2_clear_29 42 (by decide) (nI_ge (by omega) (by omega)) ?_
    refine x_aload_n dJ2_clear_32 rfl ?_
    refine x_iload_n dJ2_clear_33 rfl ?_
    refine x_null dJ2_clear_34 ?_
    refine v_astN hD (i := 1) rfl dJ2_clear_35 (t := 5) rfl (vp_in_nI (n := k) (by omega) (by omega)) ?_
    rw [show (nI k).toNatClampNeg = k from nI_clamp (by omega)]
    rw [clF_1]
    refine x_iinc (v := nI (k + 1)) dJ2_clear_36 rfl (nI_1 _) (by decide) rfl ?_
    refine x_goto (tgt := 27) dJ2_clear_39 (by decide) ?_
    exact ih (k + 1) (by omega)
theorem c_J2_clear (g : xG) (A : xA) (l ed n cap : Nat) (mc : Int32) (f : Nat → Option Nat) (hl : A.1 l = some (xAl mc ed n)) (hE : A.1 ed = some (xQa 5 cap f)) (hn : n ≤ cap) (hc : cap < 2 ^ 31) : xC g iJ2_clear 0 [.ref l] A (xRet none (ov A [(l, xAl (mc + 1) ed 0), (ed, xQa 5 cap (clF n f))])) := by
  show xW g _ _ 0 [some (.ref l), none, none, none] [] _ _
  refine xW.at2 hl hE ?_
  have hD : ovD [l, ed] := ovD_2 (xdf hE hl xne_a')
  refine x_aload_n dJ2_clear_0 rfl ?_
  refine x_dup dJ2_clear_1 rfl ?_
  refine x_get fgJ2_63_11 dJ2_clear_2 (Or.inl (ov_at hD (i := 0) rfl)) rfl ?_
  refine x_iconst (v := 1) dJ2_clear_5 rfl ?_
  refine x_iadd dJ2_clear_6 ?_
  refine v_put hD (i := 0) rfl fpJ2_63_11 dJ2_clear_7 ⟨rfl, rfl⟩ (by exact Nat.le_of_ble_eq_true rfl) ?_
  refine x_aload_n dJ2_clear_10 rfl ?_
  refine x_get fgJ2_9_11 dJ2_clear_11 (Or.inl (ov_at hD (i := 0) rfl)) rfl ?_
  refine x_astore_n dJ2_clear_14 (by decide) rfl ?_
  refine x_aload_n dJ2_clear_15 rfl ?_
  refine x_get fgJ2_48_11 dJ2_clear_16 (Or.inl (ov_at hD (i := 0) rfl)) rfl ?_
  refine x_istore_n dJ2_clear_19 (by decide) rfl ?_
  refine x_aload_n dJ2_clear_20 rfl ?_
  refine x_iconst (v := 0) dJ2_clear_21 rfl ?_
  refine x_dup_x1 dJ2_clear_22 rfl rfl ?_
  refine v_put hD (i := 0) rfl fpJ2_48_11 dJ2_clear_23 ⟨rfl, rfl⟩ (by exact Nat.le_of_ble_eq_true rfl) ?_
  refine x_istore_n dJ2_clear_26 (by decide) rfl ?_
  have k9 := cl_l g A l ed n cap (mc + 1) f hD hn hc n 0 (by omega)
  rw [clF_0] at k9
  exact k9
theorem c_J2_clear0 (g : xG) (A : xA) (E : Nat → Nat) (hg : gW g E) (l : Nat) (mc : Int32) (hl : A.1 l = some (xAl mc (E 0) 0)) : xC g iJ2_clear 0 [.ref l] A (xRet none (xup A l (xAl (mc + 1) (E 0) 0))) := by
  show xW g _ _ 0 [some (.ref l), none, none, none] [] _ _
  refine xW.at1 hl ?_
  have hD : ovD [l] := ovD_1
  refine x_aload_n dJ2_clear_0 rfl ?_
  refine x_dup dJ2_clear_1 rfl ?_
  refine x_get fgJ2_63_11 dJ2_clear_2 (Or.inl (ov_at hD (i := 0) rfl)) rfl ?_
  refine x_iconst (v := 1) dJ2_clear_5 rfl ?_
  refine x_iadd dJ2_clear_6 ?_
  refine v_put hD (i := 0) rfl fpJ2_63_11 dJ2_clear_7 ⟨rfl, rfl⟩ (by exact Nat.le_of_ble_eq_true rfl) ?_
  refine x_aload_n dJ2_clear_10 rfl ?_
  refine x_get fgJ2_9_11 dJ2_clear_11 (Or.inl (ov_at hD (i := 0) rfl)) rfl ?_
  refine x_astore_n dJ2_clear_14 (by decide) rfl ?_
  refine x_aload_n dJ2_clear_15 rfl ?_
  refine x_get fgJ2_48_11 dJ2_clear_16 (Or.inl (ov_at hD (i := 0) rfl)) rfl ?_
  refine x_istore_n dJ2_clear_19 (by decide) rfl ?_
  refine x_aload_n dJ2_clear_20 rfl ?_
  refine x_iconst (v := 0) dJ2_clear_21 rfl ?_
  refine x_dup_x1 dJ2_clear_22 rfl rfl ?_
  refine v_put hD (i := 0) rfl fpJ2_48_11 dJ2_clear_23 ⟨rfl, rfl⟩ (by exact Nat.le_of_ble_eq_true rfl) ?_
  refine x_istore_n dJ2_clear_26 (by decide) rfl ?_
  refine x_iload_n dJ2_clear_27 rfl ?_
  refine x_iload_n dJ2_clear_28 rfl ?_
  refine x_icmp_geT (tgt := 42) dJ2_clear_29 (by decide) (by decide) ?_
  exact x_return dJ2_clear_42 rfl ⟨rfl, rfl⟩
abbrev xIt (cu lr em : Int32) (l : Nat) : xE := .inr (19, [.int cu, .int lr, .int em, .ref l])
theorem c_J38_init (g : xG) (A : xA) (p l ed n : Nat) (mc : Int32) (hl : A.1 l = some (xAl mc ed n)) (hp : A.1 p = some (.inr (19, [.int 0, .int 0, .int 0, .null]))) : xC g iJ38_init 1 [.ref p, .ref l] A (xRet none (xup A p (xIt 0 (-1) mc l))) := by
  show xW g _ _ 0 [some (.ref p), some (.ref l)] [] _ _
  refine xW.at1 hp ?_
  have hD : ovD [p] := ovD_1
  refine x_aload_n dJ38_init_0 rfl ?_
  refine x_aload_n dJ38_init_1 rfl ?_
  refine v_putF hD (i := 0) rfl fFJ38_1_19 rfl dJ38_init_2 ⟨rfl, rfl⟩ (by exact Nat.le_of_ble_eq_true rfl) ?_
  refine x_aload_n dJ38_init_5 rfl ?_
  refine x_objInit q2278 q204 q205 dJ38_init_6 (by decide) (by exact Nat.le_of_ble_eq_true rfl) ?_
  refine x_aload_n dJ38_init_9 rfl ?_
  refine x_iconst (v := (-1)) dJ38_init_10 rfl ?_
  refine v_put hD (i := 0) rfl fpJ38_13_19 dJ38_init_11 ⟨rfl, rfl⟩ (by exact Nat.le_of_ble_eq_true rfl) ?_
  refine x_aload_n dJ38_init_14 rfl ?_
  refine x_aload_n dJ38_init_15 rfl ?_
  refine x_get fgJ38_1_19 dJ38_init_16 (Or.inl (ov_at hD (i := 0) rfl)) rfl ?_
  refine x_get fgJ38_17_11 dJ38_init_19 (xAt_ov (Or.inl hl) (fun k b hb => by simp at hb; subst hb; exact xdf k hp (xne_c (by decide)))) rfl ?_
  refine v_put hD (i := 0) rfl fpJ38_22_19 dJ38_init_22 ⟨rfl, rfl⟩ (by exact Nat.le_of_ble_eq_true rfl) ?_
  exact x_return dJ38_init_25 rfl ⟨rfl, rfl⟩
theorem c_J2_iterator (g : xG) (A : xA) (l ed n : Nat) (mc : Int32) (hl : A.1 l = some (xAl mc ed n)) (hlt : l < A.2.1) : xC g iJ2_iterator 2 [.ref l] A (xRet (some (.ref A.2.1)) (ov (xbp A 4) [(A.2.1, xIt 0 (-1) mc l)])) := by
  show xW g _ _ 0 [some (.ref l)] [] _ _
  have hL0 : ovL A.2.1 [] := fun b hb => by simp at hb
  have hD0 : ovD [] := trivial
  refine xW.eqA (show A = ov A [] from rfl) ?_
  refine v_new nwJ2_267 dJ2_iterator_0 ?_
  have hD1_1 := ovD_cons hL0 trivial
  have hL1_1 := ovL_cons hL0
  refine x_dup dJ2_iterator_3 rfl ?_
  refine x_aload_n dJ2_iterator_4 rfl ?_
  refine x_ciN ciJ2_269 dJ2_iterator_5 (c_J38_init _ _ _ l ed n mc (by show (xup (xbp A 4) A.2.1 _).1 l = _; rw [xup_ne (Nat.ne_of_lt hlt)]; exact hl) (by exact ov_at hD1_1 (i := 0) rfl)) rfl ?_
  refine xW.eqA (ov_up hD1_1 (i := 0) rfl) ?_
  exact x_areturn dJ2_iterator_8 rfl (Or.inl ⟨_, rfl⟩) (Or.inr ⟨_, rfl⟩) ⟨rfl, rfl⟩
theorem c_J38_hasNext_T (g : xG) (A : xA) (p l ed n cap k : Nat) (lr mc : Int32) (f : Nat → Option Nat) (hp : A.1 p = some (xIt (nI k) lr mc l)) (hl : A.1 l = some (xAl mc ed n)) (hk : k < n) (hn : n < 2 ^ 31) : xC g iJ38_hasNext 0 [.ref p] A (xRet (some (.int 1)) A) := by
  show xW g _ _ 0 [some (.ref p)] [] _ _
  refine x_aload_n dJ38_hasNext_0 rfl ?_
  refine x_get fgJ38_25_19 dJ38_hasNext_1 (Or.inl hp) rfl ?_
  refine x_aload_n dJ38_hasNext_4 rfl ?_
  refine x_get fgJ38_1_19 dJ38_hasNext_5 (Or.inl hp) rfl ?_
  refine x_get fgJ38_28_11 dJ38_hasNext_8 (Or.inl hl) rfl ?_
  refine x_icmp_eqF dJ38_hasNext_11 18 (by decide) (fun h => by have := nI_inj (by omega) (by omega) h; omega) ?_
  refine x_iconst (v := 1) dJ38_hasNext_14 rfl ?_
  refine x_goto (tgt := 19) dJ38_hasNext_15 (by decide) ?_
  exact x_ireturn dJ38_hasNext_19 rfl rfl ⟨rfl, rfl⟩
theorem c_J38_hasNext_F (g : xG) (A : xA) (p l ed n cap k : Nat) (lr mc : Int32) (f : Nat → Option Nat) (hp : A.1 p = some (xIt (nI k) lr mc l)) (hl : A.1 l = some (xAl mc ed n)) (hk : k = n) : xC g iJ38_hasNext 0 [.ref p] A (xRet (some (.int 0)) A) := by
  show xW g _ _ 0 [some (.ref p)] [] _ _
  refine x_aload_n dJ38_hasNext_0 rfl ?_
  refine x_get fgJ38_25_19 dJ38_hasNext_1 (Or.inl hp) rfl ?_
  refine x_aload_n dJ38_hasNext_4 rfl ?_
  refine x_get fgJ38_1_19 dJ38_hasNext_5 (Or.inl hp) rfl ?_
  refine x_get fgJ38_28_11 dJ38_hasNext_8 (Or.inl hl) rfl ?_
  refine x_icmp_eqT (tgt := 18) dJ38_hasNext_11 (by decide) (by rw [hk]) ?_
  refine x_iconst (v := 0) dJ38_hasNext_18 rfl ?_
  exact x_ireturn dJ38_hasNext_19 rfl rfl ⟨rfl, rfl⟩
theorem c_J38_check (g : xG) (A : xA) (p l ed n cap k : Nat) (lr mc : Int32) (f : Nat → Option Nat) (hp : A.1 p = some (xIt (nI k) lr mc l)) (hl : A.1 l = some (xAl mc ed n)) : xC g iJ38_checkForComodification 0 [.ref p] A (xRet none A) := by
  show xW g _ _ 0 [some (.ref p)] [] _ _
  refine x_aload_n dJ38_checkForComodification_0 rfl ?_
  refine x_get fgJ38_1_19 dJ38_checkForComodification_1 (Or.inl hp) rfl ?_
  refine x_get fgJ38_17_11 dJ38_checkForComodification_4 (Or.inl hl) rfl ?_
  refine x_aload_n dJ38_checkForComodification_7 rfl ?_
  refine x_get fgJ38_22_19 dJ38_checkForComodification_8 (Or.inl hp) rfl ?_
  refine x_icmp_eqT (tgt := 22) dJ38_checkForComodification_11 (by decide) rfl ?_
  exact x_return dJ38_checkForComodification_22 rfl ⟨rfl, rfl⟩
theorem c_J38_next (g : xG) (A : xA) (p l ed n cap k : Nat) (lr mc : Int32) (f : Nat → Option Nat) (hp : A.1 p = some (xIt (nI k) lr mc l)) (hl : A.1 l = some (xAl mc ed n)) (hE : A.1 ed = some (xQa 5 cap f)) (y : Nat) (hy : f k = some y) (hk : k < n) (hn : n ≤ cap) (hc : cap < 2 ^ 31) : xC g iJ38_next 1 [.ref p] A (xRet (some (.ref y)) (xup A p (xIt (nI (k + 1)) (nI k) mc l))) := by
  show xW g _ _ 0 [some (.ref p), none, none] [] _ _
  refine xW.at1 hp ?_
  have hD : ovD [p] := ovD_1
  refine x_aload_n dJ38_next_0 rfl ?_
  refine x_cvN (q := (RJ38, TJ38, 4)) cvJ38_31_J38 dJ38_next_1 (Or.inl (ov_at hD (i := 0) rfl)) rfl (c_J38_check _ _ p l ed n cap k lr mc f (by exact ov_at hD (i := 0) rfl) (by exact (ov_out (by intro b hb; simp at hb; subst hb; exact xdf hl hp (xne_c (by decide)))).trans hl)) rfl ?_
  refine x_aload_n dJ38_next_4 rfl ?_
  refine x_get fgJ38_25_19 dJ38_next_5 (Or.inl (ov_at hD (i := 0) rfl)) rfl ?_
  refine x_istore_n dJ38_next_8 (by decide) rfl ?_
  refine x_iload_n dJ38_next_9 rfl ?_
  refine x_aload_n dJ38_next_10 rfl ?_
  refine x_get fgJ38_1_19 dJ38_next_11 (Or.inl (ov_at hD (i := 0) rfl)) rfl ?_
  refine x_get fgJ38_28_11 dJ38_next_14 (xAt_ov (Or.inl hl) (fun k9 b hb => by simp at hb; subst hb; exact xdf k9 hp (xne_c (by decide)))) rfl ?_
  refine x_icmp_ltT (tgt := 28) dJ38_next_17 (by decide) (nI_lt (by omega) (by omega)) ?_
  refine x_aload_n dJ38_next_28 rfl ?_
  refine x_get fgJ38_1_19 dJ38_next_29 (Or.inl (ov_at hD (i := 0) rfl)) rfl ?_
  refine x_get fgJ38_37_11 dJ38_next_32 (xAt_ov (Or.inl hl) (fun k9 b hb => by simp at hb; subst hb; exact xdf k9 hp (xne_c (by decide)))) rfl ?_
  refine x_astore_n dJ38_next_35 (by decide) rfl ?_
  refine x_iload_n dJ38_next_36 rfl ?_
  refine x_aload_n dJ38_next_37 rfl ?_
  refine x_alen dJ38_next_38 (xAt_ov (Or.inl hE) (fun k9 b hb => by simp at hb; subst hb; exact xdf k9 hp xne_a')) (t := 5) rfl (v := nI cap) rfl ?_
  refine x_icmp_ltT (tgt := 50) dJ38_next_39 (by decide) (nI_lt (by omega) (by omega)) ?_
  refine x_aload_n dJ38_next_50 rfl ?_
  refine x_iload_n dJ38_next_51 rfl ?_
  refine x_iconst (v := 1) dJ38_next_52 rfl ?_
  refine x_iadd dJ38_next_53 ?_
  refine x_top (y := nI (k + 1)) (nI_1 k) ?_
  refine v_put hD (i := 0) rfl fpJ38_25_19 dJ38_next_54 ⟨rfl, rfl⟩ (by exact Nat.le_of_ble_eq_true rfl) ?_
  refine x_aload_n dJ38_next_57 rfl ?_
  refine x_aload_n dJ38_next_58 rfl ?_
  refine x_iload_n dJ38_next_59 rfl ?_
  refine x_dup_x1 dJ38_next_60 rfl rfl ?_
  refine v_put hD (i := 0) rfl fpJ38_13_19 dJ38_next_61 ⟨rfl, rfl⟩ (by exact Nat.le_of_ble_eq_true rfl) ?_
  refine x_ald dJ38_next_64 (t := 5) rfl (xAt_ov (Or.inl hE) (fun k9 b hb => by simp at hb; subst hb; exact xdf k9 hp xne_a')) (vp_in_nI (n := k) (by omega) (by omega)) ?_
  refine x_topv (show va_rf (f (nI k).toNatClampNeg) = .ref y by rw [nI_clamp (by omega), hy]; rfl) ?_
  exact x_areturn dJ38_next_65 rfl (Or.inl ⟨_, rfl⟩) (Or.inr ⟨_, rfl⟩) ⟨rfl, rfl⟩

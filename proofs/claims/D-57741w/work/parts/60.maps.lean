set_option maxRecDepth 100000
/-! MAPS AND SETS as the component uses them: views, iterators, looking up, putting, clearing, making -/
abbrev xLg (t0 : Value) (es : Option Nat) (c : Nat) (mc th : Int32) (ks vs hd tl : Option Nat) : xE := .inr (12, [t0, va_rf es, .int (nI c), .int mc, .int th, .float LF, va_rf ks, va_rf vs, va_rf hd, va_rf tl, .int 0, .int 0])
abbrev xLi (k : Nat) (nx cu : Option Nat) (em : Int32) (m : Nat) : xE := .inr (k, [va_rf nx, va_rf cu, .int em, .int 0, .ref m])
abbrev xVw (k m : Nat) : xE := .inr (k, [.int 0, .ref m])
theorem c_J6_init (g : xG) (A : xA) (p : Nat) : xC g iJ6_init 2 [.ref p] A (xRet none A) := by
  show xW g _ _ 0 [some (.ref p)] [] _ _
  refine x_aload_n dJ6_init_0 rfl ?_
  refine x_ciN ciJ6_1 dJ6_init_1 (c_J0_init _ _ _) rfl ?_
  exact x_return dJ6_init_4 rfl ⟨rfl, rfl⟩
theorem c_J3_init (g : xG) (A : xA) (p : Nat) : xC g iJ3_init 1 [.ref p] A (xRet none A) := by
  show xW g _ _ 0 [some (.ref p)] [] _ _
  refine x_aload_n dJ3_init_0 rfl ?_
  refine x_objInit q258 q204 q205 dJ3_init_1 (by decide) (by exact Nat.le_of_ble_eq_true rfl) ?_
  exact x_return dJ3_init_4 rfl ⟨rfl, rfl⟩
theorem xne_k {k c : Nat} {fs fs' : List Value} (h : k ≠ c) : (Sum.inr (k, fs) : xE) ≠ Sum.inr (c, fs') := xne_c h
theorem c_J42_init_21 (g : xG) (A : xA) (p : Nat) (m : Nat) (t0 : Value) (es ks vs hd tl : Option Nat) (c : Nat) (mc th : Int32) (hp : A.1 p = some (.inr (21, [.null, .null, .int 0, .int 0, .null]))) (hm : A.1 m = some (xLg t0 es c mc th ks vs hd tl)) : xC g iJ42_init 1 [.ref p, .ref m, .int 0] A (xRet none (xup A p (xLi 21 hd none mc m))) := by
  show xW g _ _ 0 [some (.ref p), some (.ref m), some (.int 0)] [] _ _
  refine xW.at1 hp ?_
  have hD : ovD [p] := ovD_1
  refine x_aload_n dJ42_init_0 rfl ?_
  refine x_aload_n dJ42_init_1 rfl ?_
  refine v_putF hD (i := 0) rfl fFJ42_1_21 rfl dJ42_init_2 ⟨rfl, rfl⟩ (by exact Nat.le_of_ble_eq_true rfl) ?_
  refine x_aload_n dJ42_init_5 rfl ?_
  refine x_objInit q2475 q204 q205 dJ42_init_6 (by decide) (by exact Nat.le_of_ble_eq_true rfl) ?_
  refine x_aload_n dJ42_init_9 rfl ?_
  refine x_iload_n dJ42_init_10 rfl ?_
  refine v_put hD (i := 0) rfl fpJ42_13_21 dJ42_init_11 ⟨rfl, rfl⟩ (by exact Nat.le_of_ble_eq_true rfl) ?_
  refine x_aload_n dJ42_init_14 rfl ?_
  refine x_iload_n dJ42_init_15 rfl ?_
  refine x_if_eqT (tgt := 26) dJ42_init_16 (by decide) rfl ?_
  refine x_aload_n dJ42_init_26 rfl ?_
  refine x_get fgJ42_23_12 dJ42_init_27 (Or.inl ((ov_out (by intro b hb; simp at hb; subst hb; exact xdf hm hp (xne_c (by decide)))).trans hm)) rfl ?_
  refine v_put hD (i := 0) rfl fpJ42_26_21 dJ42_init_30 xfit_rf (by exact Nat.le_of_ble_eq_true rfl) ?_
  refine x_aload_n dJ42_init_33 rfl ?_
  refine x_aload_n dJ42_init_34 rfl ?_
  refine x_get fgJ42_29_12 dJ42_init_35 (Or.inl ((ov_out (by intro b hb; simp at hb; subst hb; exact xdf hm hp (xne_c (by decide)))).trans hm)) rfl ?_
  refine v_put hD (i := 0) rfl fpJ42_33_21 dJ42_init_38 ⟨rfl, rfl⟩ (by exact Nat.le_of_ble_eq_true rfl) ?_
  refine x_aload_n dJ42_init_41 rfl ?_
  refine x_null dJ42_init_42 ?_
  refine v_put hD (i := 0) rfl fpJ42_36_21 dJ42_init_43 ⟨rfl, rfl⟩ (by exact Nat.le_of_ble_eq_true rfl) ?_
  exact x_return dJ42_init_46 rfl ⟨rfl, rfl⟩
theorem c_J43_init (g : xG) (A : xA) (p : Nat) (m : Nat) (t0 : Value) (es ks vs hd tl : Option Nat) (c : Nat) (mc th : Int32) (hp : A.1 p = some (.inr (21, [.null, .null, .int 0, .int 0, .null]))) (hm : A.1 m = some (xLg t0 es c mc th ks vs hd tl)) : xC g iJ43_init 2 [.ref p, .ref m, .int 0] A (xRet none (xup A p (xLi 21 hd none mc m))) := by
  show xW g _ _ 0 [some (.ref p), some (.ref m), some (.int 0)] [] _ _
  refine xW.at1 hp ?_
  have hD : ovD [p] := ovD_1
  refine x_aload_n dJ43_init_0 rfl ?_
  refine x_aload_n dJ43_init_1 rfl ?_
  refine x_iload_n dJ43_init_2 rfl ?_
  refine x_ciN ciJ43_1 dJ43_init_3 (c_J42_init_21 _ _ _ m t0 es ks vs hd tl c mc th (by exact ov_at hD (i := 0) rfl) (by exact (ov_out (by intro b hb; simp at hb; subst hb; exact xdf hm hp (xne_c (by decide)))).trans hm)) rfl ?_
  refine xW.eqA (ov_up hD (i := 0) rfl) ?_
  exact x_return dJ43_init_6 rfl ⟨rfl, rfl⟩
theorem c_J42_init_22 (g : xG) (A : xA) (p : Nat) (m : Nat) (t0 : Value) (es ks vs hd tl : Option Nat) (c : Nat) (mc th : Int32) (hp : A.1 p = some (.inr (22, [.null, .null, .int 0, .int 0, .null]))) (hm : A.1 m = some (xLg t0 es c mc th ks vs hd tl)) : xC g iJ42_init 1 [.ref p, .ref m, .int 0] A (xRet none (xup A p (xLi 22 hd none mc m))) := by
  show xW g _ _ 0 [some (.ref p), some (.ref m), some (.int 0)] [] _ _
  refine xW.at1 hp ?_
  have hD : ovD [p] := ovD_1
  refine x_aload_n dJ42_init_0 rfl ?_
  refine x_aload_n dJ42_init_1 rfl ?_
  refine v_putF hD (i := 0) rfl fFJ42_1_22 rfl dJ42_init_2 ⟨rfl, rfl⟩ (by exact Nat.le_of_ble_eq_true rfl) ?_
  refine x_aload_n dJ42_init_5 rfl ?_
  refine x_objInit q2475 q204 q205 dJ42_init_6 (by decide) (by exact Nat.le_of_ble_eq_true rfl) ?_
  refine x_aload_n dJ42_init_9 rfl ?_
  refine x_iload_n dJ42_init_10 rfl ?_
  refine v_put hD (i := 0) rfl fpJ42_13_22 dJ42_init_11 ⟨rfl, rfl⟩ (by exact Nat.le_of_ble_eq_true rfl) ?_
  refine x_aload_n dJ42_init_14 rfl ?_
  refine x_iload_n dJ42_init_15 rfl ?_
  refine x_if_eqT (tgt := 26) dJ42_init_16 (by decide) rfl ?_
  refine x_aload_n dJ42_init_26 rfl ?_
  refine x_get fgJ42_23_12 dJ42_init_27 (Or.inl ((ov_out (by intro b hb; simp at hb; subst hb; exact xdf hm hp (xne_c (by decide)))).trans hm)) rfl ?_
  refine v_put hD (i := 0) rfl fpJ42_26_22 dJ42_init_30 xfit_rf (by exact Nat.le_of_ble_eq_true rfl) ?_
  refine x_aload_n dJ42_init_33 rfl ?_
  refine x_aload_n dJ42_init_34 rfl ?_
  refine x_get fgJ42_29_12 dJ42_init_35 (Or.inl ((ov_out (by intro b hb; simp at hb; subst hb; exact xdf hm hp (xne_c (by decide)))).trans hm)) rfl ?_
  refine v_put hD (i := 0) rfl fpJ42_33_22 dJ42_init_38 ⟨rfl, rfl⟩ (by exact Nat.le_of_ble_eq_true rfl) ?_
  refine x_aload_n dJ42_init_41 rfl ?_
  refine x_null dJ42_init_42 ?_
  refine v_put hD (i := 0) rfl fpJ42_36_22 dJ42_init_43 ⟨rfl, rfl⟩ (by exact Nat.le_of_ble_eq_true rfl) ?_
  exact x_return dJ42_init_46 rfl ⟨rfl, rfl⟩
theorem c_J44_init (g : xG) (A : xA) (p : Nat) (m : Nat) (t0 : Value) (es ks vs hd tl : Option Nat) (c : Nat) (mc th : Int32) (hp : A.1 p = some (.inr (22, [.null, .null, .int 0, .int 0, .null]))) (hm : A.1 m = some (xLg t0 es c mc th ks vs hd tl)) : xC g iJ44_init 2 [.ref p, .ref m, .int 0] A (xRet none (xup A p (xLi 22 hd none mc m))) := by
  show xW g _ _ 0 [some (.ref p), some (.ref m), some (.int 0)] [] _ _
  refine xW.at1 hp ?_
  have hD : ovD [p] := ovD_1
  refine x_aload_n dJ44_init_0 rfl ?_
  refine x_aload_n dJ44_init_1 rfl ?_
  refine x_iload_n dJ44_init_2 rfl ?_
  refine x_ciN ciJ44_1 dJ44_init_3 (c_J42_init_22 _ _ _ m t0 es ks vs hd tl c mc th (by exact ov_at hD (i := 0) rfl) (by exact (ov_out (by intro b hb; simp at hb; subst hb; exact xdf hm hp (xne_c (by decide)))).trans hm)) rfl ?_
  refine xW.eqA (ov_up hD (i := 0) rfl) ?_
  exact x_return dJ44_init_6 rfl ⟨rfl, rfl⟩
theorem c_J42_init_25 (g : xG) (A : xA) (p : Nat) (m : Nat) (t0 : Value) (es ks vs hd tl : Option Nat) (c : Nat) (mc th : Int32) (hp : A.1 p = some (.inr (25, [.null, .null, .int 0, .int 0, .null]))) (hm : A.1 m = some (xLg t0 es c mc th ks vs hd tl)) : xC g iJ42_init 1 [.ref p, .ref m, .int 0] A (xRet none (xup A p (xLi 25 hd none mc m))) := by
  show xW g _ _ 0 [some (.ref p), some (.ref m), some (.int 0)] [] _ _
  refine xW.at1 hp ?_
  have hD : ovD [p] := ovD_1
  refine x_aload_n dJ42_init_0 rfl ?_
  refine x_aload_n dJ42_init_1 rfl ?_
  refine v_putF hD (i := 0) rfl fFJ42_1_25 rfl dJ42_init_2 ⟨rfl, rfl⟩ (by exact Nat.le_of_ble_eq_true rfl) ?_
  refine x_aload_n dJ42_init_5 rfl ?_
  refine x_objInit q2475 q204 q205 dJ42_init_6 (by decide) (by exact Nat.le_of_ble_eq_true rfl) ?_
  refine x_aload_n dJ42_init_9 rfl ?_
  refine x_iload_n dJ42_init_10 rfl ?_
  refine v_put hD (i := 0) rfl fpJ42_13_25 dJ42_init_11 ⟨rfl, rfl⟩ (by exact Nat.le_of_ble_eq_true rfl) ?_
  refine x_aload_n dJ42_init_14 rfl ?_
  refine x_iload_n dJ42_init_15 rfl ?_
  refine x_if_eqT (tgt := 26) dJ42_init_16 (by decide) rfl ?_
  refine x_aload_n dJ42_init_26 rfl ?_
  refine x_get fgJ42_23_12 dJ42_init_27 (Or.inl ((ov_out (by intro b hb; simp at hb; subst hb; exact xdf hm hp (xne_c (by decide)))).trans hm)) rfl ?_
  refine v_put hD (i := 0) rfl fpJ42_26_25 dJ42_init_30 xfit_rf (by exact Nat.le_of_ble_eq_true rfl) ?_
  refine x_aload_n dJ42_init_33 rfl ?_
  refine x_aload_n dJ42_init_34 rfl ?_
  refine x_get fgJ42_29_12 dJ42_init_35 (Or.inl ((ov_out (by intro b hb; simp at hb; subst hb; exact xdf hm hp (xne_c (by decide)))).trans hm)) rfl ?_
  refine v_put hD (i := 0) rfl fpJ42_33_25 dJ42_init_38 ⟨rfl, rfl⟩ (by exact Nat.le_of_ble_eq_true rfl) ?_
  refine x_aload_n dJ42_init_41 rfl ?_
  refine x_null dJ42_init_42 ?_
  refine v_put hD (i := 0) rfl fpJ42_36_25 dJ42_init_43 ⟨rfl, rfl⟩ (by exact Nat.le_of_ble_eq_true rfl) ?_
  exact x_return dJ42_init_46 rfl ⟨rfl, rfl⟩
theorem c_J51_init (g : xG) (A : xA) (p : Nat) (m : Nat) (t0 : Value) (es ks vs hd tl : Option Nat) (c : Nat) (mc th : Int32) (hp : A.1 p = some (.inr (25, [.null, .null, .int 0, .int 0, .null]))) (hm : A.1 m = some (xLg t0 es c mc th ks vs hd tl)) : xC g iJ51_init 2 [.ref p, .ref m, .int 0] A (xRet none (xup A p (xLi 25 hd none mc m))) := by
  show xW g _ _ 0 [some (.ref p), some (.ref m), some (.int 0)] [] _ _
  refine xW.at1 hp ?_
  have hD : ovD [p] := ovD_1
  refine x_aload_n dJ51_init_0 rfl ?_
  refine x_aload_n dJ51_init_1 rfl ?_
  refine x_iload_n dJ51_init_2 rfl ?_
  refine x_ciN ciJ51_1 dJ51_init_3 (c_J42_init_25 _ _ _ m t0 es ks vs hd tl c mc th (by exact ov_at hD (i := 0) rfl) (by exact (ov_out (by intro b hb; simp at hb; subst hb; exact xdf hm hp (xne_c (by decide)))).trans hm)) rfl ?_
  refine xW.eqA (ov_up hD (i := 0) rfl) ?_
  exact x_return dJ51_init_6 rfl ⟨rfl, rfl⟩
theorem c_J39_init (g : xG) (A : xA) (p m : Nat) (hp : A.1 p = some (.inr (20, [.int 0, .null]))) : xC g iJ39_init 3 [.ref p, .ref m, .int 0] A (xRet none (xup A p (xVw 20 m))) := by
  show xW g _ _ 0 [some (.ref p), some (.ref m), some (.int 0)] [] _ _
  refine xW.at1 hp ?_
  have hD : ovD [p] := ovD_1
  refine x_aload_n dJ39_init_0 rfl ?_
  refine x_aload_n dJ39_init_1 rfl ?_
  refine v_putF hD (i := 0) rfl fFJ39_1_20 rfl dJ39_init_2 ⟨rfl, rfl⟩ (by exact Nat.le_of_ble_eq_true rfl) ?_
  refine x_aload_n dJ39_init_5 rfl ?_
  refine x_ciN ciJ39_7 dJ39_init_6 (c_J6_init _ _ _) rfl ?_
  refine x_aload_n dJ39_init_9 rfl ?_
  refine x_iload_n dJ39_init_10 rfl ?_
  refine v_putF hD (i := 0) rfl fFJ39_13_20 rfl dJ39_init_11 ⟨rfl, rfl⟩ (by exact Nat.le_of_ble_eq_true rfl) ?_
  exact x_return dJ39_init_14 rfl ⟨rfl, rfl⟩
theorem c_J39_iterator (g : xG) (A : xA) (w : Nat) (m : Nat) (t0 : Value) (es ks vs hd tl : Option Nat) (c : Nat) (mc th : Int32) (hw : A.1 w = some (xVw 20 m)) (hm : A.1 m = some (xLg t0 es c mc th ks vs hd tl)) (hlt : m < A.2.1) (hwl : w < A.2.1) : xC g iJ39_iterator 3 [.ref w] A (xRet (some (.ref A.2.1)) (ov (xbp A 5) [(A.2.1, xLi 21 hd none mc m)])) := by
  show xW g _ _ 0 [some (.ref w)] [] _ _
  have hL0 : ovL A.2.1 [] := fun b hb => by simp at hb
  have hD0 : ovD [] := trivial
  refine xW.eqA (show A = ov A [] from rfl) ?_
  refine v_new nwJ39_26 dJ39_iterator_0 ?_
  have hD1_1 := ovD_cons hL0 hD0
  have hL1_1 := ovL_cons hL0
  refine x_dup dJ39_iterator_3 rfl ?_
  refine x_aload_n dJ39_iterator_4 rfl ?_
  refine x_get fgJ39_1_20 dJ39_iterator_5 (Or.inl ((show (xup (xbp A 5) A.2.1 _).1 w = A.1 w from xup_ne (Nat.ne_of_lt hwl)).trans hw)) rfl ?_
  refine x_aload_n dJ39_iterator_8 rfl ?_
  refine x_get fgJ39_13_20 dJ39_iterator_9 (Or.inl ((show (xup (xbp A 5) A.2.1 _).1 w = A.1 w from xup_ne (Nat.ne_of_lt hwl)).trans hw)) rfl ?_
  refine x_ciN ciJ39_28 dJ39_iterator_12 (c_J43_init _ _ _ m t0 es ks vs hd tl c mc th (by exact ov_at hD1_1 (i := 0) rfl) (by show (xup (xbp A 5) A.2.1 _).1 m = _; rw [xup_ne (Nat.ne_of_lt hlt)]; exact hm)) rfl ?_
  refine xW.eqA (ov_up hD1_1 (i := 0) rfl) ?_
  exact x_areturn dJ39_iterator_15 rfl (Or.inl ⟨_, rfl⟩) (Or.inr ⟨_, rfl⟩) ⟨rfl, rfl⟩
theorem c_J46_init (g : xG) (A : xA) (p m : Nat) (hp : A.1 p = some (.inr (23, [.int 0, .null]))) : xC g iJ46_init 3 [.ref p, .ref m, .int 0] A (xRet none (xup A p (xVw 23 m))) := by
  show xW g _ _ 0 [some (.ref p), some (.ref m), some (.int 0)] [] _ _
  refine xW.at1 hp ?_
  have hD : ovD [p] := ovD_1
  refine x_aload_n dJ46_init_0 rfl ?_
  refine x_aload_n dJ46_init_1 rfl ?_
  refine v_putF hD (i := 0) rfl fFJ46_1_23 rfl dJ46_init_2 ⟨rfl, rfl⟩ (by exact Nat.le_of_ble_eq_true rfl) ?_
  refine x_aload_n dJ46_init_5 rfl ?_
  refine x_ciN ciJ46_7 dJ46_init_6 (c_J6_init _ _ _) rfl ?_
  refine x_aload_n dJ46_init_9 rfl ?_
  refine x_iload_n dJ46_init_10 rfl ?_
  refine v_putF hD (i := 0) rfl fFJ46_13_23 rfl dJ46_init_11 ⟨rfl, rfl⟩ (by exact Nat.le_of_ble_eq_true rfl) ?_
  exact x_return dJ46_init_14 rfl ⟨rfl, rfl⟩
theorem c_J46_iterator (g : xG) (A : xA) (w : Nat) (m : Nat) (t0 : Value) (es ks vs hd tl : Option Nat) (c : Nat) (mc th : Int32) (hw : A.1 w = some (xVw 23 m)) (hm : A.1 m = some (xLg t0 es c mc th ks vs hd tl)) (hlt : m < A.2.1) (hwl : w < A.2.1) : xC g iJ46_iterator 3 [.ref w] A (xRet (some (.ref A.2.1)) (ov (xbp A 5) [(A.2.1, xLi 22 hd none mc m)])) := by
  show xW g _ _ 0 [some (.ref w)] [] _ _
  have hL0 : ovL A.2.1 [] := fun b hb => by simp at hb
  have hD0 : ovD [] := trivial
  refine xW.eqA (show A = ov A [] from rfl) ?_
  refine v_new nwJ46_26 dJ46_iterator_0 ?_
  have hD1_1 := ovD_cons hL0 hD0
  have hL1_1 := ovL_cons hL0
  refine x_dup dJ46_iterator_3 rfl ?_
  refine x_aload_n dJ46_iterator_4 rfl ?_
  refine x_get fgJ46_1_23 dJ46_iterator_5 (Or.inl ((show (xup (xbp A 5) A.2.1 _).1 w = A.1 w from xup_ne (Nat.ne_of_lt hwl)).trans hw)) rfl ?_
  refine x_aload_n dJ46_iterator_8 rfl ?_
  refine x_get fgJ46_13_23 dJ46_iterator_9 (Or.inl ((show (xup (xbp A 5) A.2.1 _).1 w = A.1 w from xup_ne (Nat.ne_of_lt hwl)).trans hw)) rfl ?_
  refine x_ciN ciJ46_28 dJ46_iterator_12 (c_J44_init _ _ _ m t0 es ks vs hd tl c mc th (by exact ov_at hD1_1 (i := 0) rfl) (by show (xup (xbp A 5) A.2.1 _).1 m = _; rw [xup_ne (Nat.ne_of_lt hlt)]; exact hm)) rfl ?_
  refine xW.eqA (ov_up hD1_1 (i := 0) rfl) ?_
  exact x_areturn dJ46_iterator_15 rfl (Or.inl ⟨_, rfl⟩) (Or.inr ⟨_, rfl⟩) ⟨rfl, rfl⟩
theorem c_J49_init (g : xG) (A : xA) (p m : Nat) (hp : A.1 p = some (.inr (24, [.int 0, .null]))) : xC g iJ49_init 3 [.ref p, .ref m, .int 0] A (xRet none (xup A p (xVw 24 m))) := by
  show xW g _ _ 0 [some (.ref p), some (.ref m), some (.int 0)] [] _ _
  refine xW.at1 hp ?_
  have hD : ovD [p] := ovD_1
  refine x_aload_n dJ49_init_0 rfl ?_
  refine x_aload_n dJ49_init_1 rfl ?_
  refine v_putF hD (i := 0) rfl fFJ49_1_24 rfl dJ49_init_2 ⟨rfl, rfl⟩ (by exact Nat.le_of_ble_eq_true rfl) ?_
  refine x_aload_n dJ49_init_5 rfl ?_
  refine x_ciN ciJ49_7 dJ49_init_6 (c_J0_init _ _ _) rfl ?_
  refine x_aload_n dJ49_init_9 rfl ?_
  refine x_iload_n dJ49_init_10 rfl ?_
  refine v_putF hD (i := 0) rfl fFJ49_13_24 rfl dJ49_init_11 ⟨rfl, rfl⟩ (by exact Nat.le_of_ble_eq_true rfl) ?_
  exact x_return dJ49_init_14 rfl ⟨rfl, rfl⟩
theorem c_J49_iterator (g : xG) (A : xA) (w : Nat) (m : Nat) (t0 : Value) (es ks vs hd tl : Option Nat) (c : Nat) (mc th : Int32) (hw : A.1 w = some (xVw 24 m)) (hm : A.1 m = some (xLg t0 es c mc th ks vs hd tl)) (hlt : m < A.2.1) (hwl : w < A.2.1) : xC g iJ49_iterator 3 [.ref w] A (xRet (some (.ref A.2.1)) (ov (xbp A 5) [(A.2.1, xLi 25 hd none mc m)])) := by
  show xW g _ _ 0 [some (.ref w)] [] _ _
  have hL0 : ovL A.2.1 [] := fun b hb => by simp at hb
  have hD0 : ovD [] := trivial
  refine xW.eqA (show A = ov A [] from rfl) ?_
  refine v_new nwJ49_26 dJ49_iterator_0 ?_
  have hD1_1 := ovD_cons hL0 hD0
  have hL1_1 := ovL_cons hL0
  refine x_dup dJ49_iterator_3 rfl ?_
  refine x_aload_n dJ49_iterator_4 rfl ?_
  refine x_get fgJ49_1_24 dJ49_iterator_5 (Or.inl ((show (xup (xbp A 5) A.2.1 _).1 w = A.1 w from xup_ne (Nat.ne_of_lt hwl)).trans hw)) rfl ?_
  refine x_aload_n dJ49_iterator_8 rfl ?_
  refine x_get fgJ49_13_24 dJ49_iterator_9 (Or.inl ((show (xup (xbp A 5) A.2.1 _).1 w = A.1 w from xup_ne (Nat.ne_of_lt hwl)).trans hw)) rfl ?_
  refine x_ciN ciJ49_28 dJ49_iterator_12 (c_J51_init _ _ _ m t0 es ks vs hd tl c mc th (by exact ov_at hD1_1 (i := 0) rfl) (by show (xup (xbp A 5) A.2.1 _).1 m = _; rw [xup_ne (Nat.ne_of_lt hlt)]; exact hm)) rfl ?_
  refine xW.eqA (ov_up hD1_1 (i := 0) rfl) ?_
  exact x_areturn dJ49_iterator_15 rfl (Or.inl ⟨_, rfl⟩) (Or.inr ⟨_, rfl⟩) ⟨rfl, rfl⟩
theorem c_seqEntrySet_y (g : xG) (A : xA) (w : Nat) (m : Nat) (t0 : Value) (ks vs hd tl : Option Nat) (c : Nat) (mc th : Int32) (hm : A.1 m = some (xLg t0 (some w) c mc th ks vs hd tl)) (hw : A.1 w = some (xVw 20 m)) : xC g iJ5_sequencedEntrySet 4 [.ref m] A (xRet (some (.ref w)) A) := by
  show xW g _ _ 0 [some (.ref m), none, none] [] _ _
  refine x_aload_n dJ5_sequencedEntrySet_0 rfl ?_
  refine x_get fgJ5_151_12 dJ5_sequencedEntrySet_1 (Or.inl hm) rfl ?_
  refine x_astore_n dJ5_sequencedEntrySet_4 (by decide) rfl ?_
  refine x_aload_n dJ5_sequencedEntrySet_5 rfl ?_
  refine x_nn_T (tgt := 26) dJ5_sequencedEntrySet_6 (by decide) ?_
  refine x_aload_n dJ5_sequencedEntrySet_26 rfl ?_
  refine x_castY dJ5_sequencedEntrySet_27 q2425 (Or.inl hw) (q := (RJ39, TJ39, 2)) rfl (Or.inr q4260) ?_
  exact x_areturn dJ5_sequencedEntrySet_30 rfl (Or.inl ⟨_, rfl⟩) (Or.inr ⟨_, rfl⟩) ⟨rfl, rfl⟩
theorem c_seqEntrySet_n (g : xG) (A : xA) (m : Nat) (t0 : Value) (ks vs hd tl : Option Nat) (c : Nat) (mc th : Int32) (hm : A.1 m = some (xLg t0 (none) c mc th ks vs hd tl)) (hlt : m < A.2.1) : xC g iJ5_sequencedEntrySet 4 [.ref m] A (xRet (some (.ref A.2.1)) (ov (xbp A 2) [(A.2.1, xVw 20 m), (m, (xLg t0 (some A.2.1) c mc th ks vs hd tl))])) := by
  show xW g _ _ 0 [some (.ref m), none, none] [] _ _
  refine xW.at1 hm ?_
  have hD : ovD [m] := ovD_1
  have hL : ovL A.2.1 [m] := fun b hb => by simp at hb; omega
  refine x_aload_n dJ5_sequencedEntrySet_0 rfl ?_
  refine x_get fgJ5_151_12 dJ5_sequencedEntrySet_1 (Or.inl (ov_at hD (i := 0) rfl)) rfl ?_
  refine x_astore_nN dJ5_sequencedEntrySet_4 (by decide) rfl ?_
  refine x_aload_nN dJ5_sequencedEntrySet_5 rfl ?_
  refine x_nn_F dJ5_sequencedEntrySet_6 ?_
  refine v_new nwJ5_154 dJ5_sequencedEntrySet_9 ?_
  have hD1_1 := ovD_cons hL hD
  have hL1_1 := ovL_cons hL
  refine x_dup dJ5_sequencedEntrySet_12 rfl ?_
  refine x_aload_n dJ5_sequencedEntrySet_13 rfl ?_
  refine x_iconst (v := 0) dJ5_sequencedEntrySet_14 rfl ?_
  refine x_ciN ciJ5_156 dJ5_sequencedEntrySet_15 (c_J39_init _ _ _ m (by exact ov_at hD1_1 (i := 0) rfl)) rfl ?_
  refine xW.eqA (ov_up hD1_1 (i := 0) rfl) ?_
  refine x_astore_n dJ5_sequencedEntrySet_18 (by decide) rfl ?_
  refine x_aload_n dJ5_sequencedEntrySet_19 rfl ?_
  refine x_aload_n dJ5_sequencedEntrySet_20 rfl ?_
  refine v_put hD1_1 (i := 1) rfl fpJ5_151_12 dJ5_sequencedEntrySet_21 ⟨rfl, rfl⟩ (by exact Nat.le_of_ble_eq_true rfl) ?_
  refine x_aload_n dJ5_sequencedEntrySet_24 rfl ?_
  exact x_areturn dJ5_sequencedEntrySet_25 rfl (Or.inl ⟨_, rfl⟩) (Or.inr ⟨_, rfl⟩) ⟨rfl, rfl⟩
theorem c_J5_entrySet (g : xG) (A : xA) (m : Nat) (t0 : Value) (es ks vs hd tl : Option Nat) (c : Nat) (mc th : Int32) (hm : A.1 m = some (xLg t0 es c mc th ks vs hd tl)) (hlt : m < A.2.1) (hv : ∀ w, es = some w → A.1 w = some (xVw 20 m)) (hok : xOk g A) : xC g iJ5_entrySet 5 [.ref m] A (xRs fun u A' => ∃ w, u = some (.ref w) ∧ A'.1 w = some (xVw 20 m) ∧ w < A'.2.1 ∧ A'.1 m = some (xLg t0 (some w) c mc th ks vs hd tl) ∧ (∀ r, r < A.2.1 → r ≠ m → A'.1 r = A.1 r) ∧ (es = some w ∨ A.2.1 ≤ w) ∧ xBd A A' 1 2) := by
  show xW g _ _ 0 [some (.ref m)] [] _ _
  refine x_aload_n dJ5_entrySet_0 rfl ?_
  cases es with
  | none =>
    refine x_cvV (q := (RJ5, TJ5, 12)) cvJ5_148_J5 dJ5_entrySet_1 (Or.inl hm) rfl (c_seqEntrySet_n _ _ m t0 ks vs hd tl c mc th hm hlt) rfl ?_
    refine x_areturn dJ5_entrySet_4 rfl (Or.inl ⟨_, rfl⟩) (Or.inr ⟨_, rfl⟩) ⟨_, rfl, A.2.1, rfl, xup_self, Nat.lt_succ_self _, ?_, fun r h1 h2 => ?_, Or.inr (Nat.le_refl _), Nat.le_succ _, Nat.le_refl _, Nat.le_refl _⟩
    · show (xup (xup (xbp A 2) m _) A.2.1 _).1 m = _
      rw [xup_ne (Nat.ne_of_lt hlt), xup_self]
    · show (xup (xup (xbp A 2) m _) A.2.1 _).1 r = _
      rw [xup_ne (Nat.ne_of_lt h1), xup_ne h2]
      rfl
  | some w =>
    have hw := hv w rfl
    refine x_cvV (q := (RJ5, TJ5, 12)) cvJ5_148_J5 dJ5_entrySet_1 (Or.inl hm) rfl (c_seqEntrySet_y _ _ w m t0 ks vs hd tl c mc th hm hw) rfl ?_
    exact x_areturn dJ5_entrySet_4 rfl (Or.inl ⟨_, rfl⟩) (Or.inr ⟨_, rfl⟩) ⟨_, rfl, w, rfl, hw, (hok.2 w _ hw).2, hm, fun r _ _ => rfl, Or.inl rfl, Nat.le_refl _, Nat.le_add_right _ _, Nat.le_add_right _ _⟩
theorem c_seqKeySet_y (g : xG) (A : xA) (w : Nat) (m : Nat) (t0 : Value) (es vs hd tl : Option Nat) (c : Nat) (mc th : Int32) (hm : A.1 m = some (xLg t0 es c mc th (some w) vs hd tl)) (hw : A.1 w = some (xVw 23 m)) : xC g iJ5_sequencedKeySet 4 [.ref m] A (xRet (some (.ref w)) A) := by
  show xW g _ _ 0 [some (.ref m), none, none] [] _ _
  refine x_aload_n dJ5_sequencedKeySet_0 rfl ?_
  refine x_get fgJ5_117_12 dJ5_sequencedKeySet_1 (Or.inl hm) rfl ?_
  refine x_astore_n dJ5_sequencedKeySet_4 (by decide) rfl ?_
  refine x_aload_n dJ5_sequencedKeySet_5 rfl ?_
  refine x_nn_T (tgt := 26) dJ5_sequencedKeySet_6 (by decide) ?_
  refine x_aload_n dJ5_sequencedKeySet_26 rfl ?_
  refine x_castY dJ5_sequencedKeySet_27 q2425 (Or.inl hw) (q := (RJ46, TJ46, 2)) rfl (Or.inr q4261) ?_
  exact x_areturn dJ5_sequencedKeySet_30 rfl (Or.inl ⟨_, rfl⟩) (Or.inr ⟨_, rfl⟩) ⟨rfl, rfl⟩
theorem c_seqKeySet_n (g : xG) (A : xA) (m : Nat) (t0 : Value) (es vs hd tl : Option Nat) (c : Nat) (mc th : Int32) (hm : A.1 m = some (xLg t0 es c mc th (none) vs hd tl)) (hlt : m < A.2.1) : xC g iJ5_sequencedKeySet 4 [.ref m] A (xRet (some (.ref A.2.1)) (ov (xbp A 2) [(A.2.1, xVw 23 m), (m, (xLg t0 es c mc th (some A.2.1) vs hd tl))])) := by
  show xW g _ _ 0 [some (.ref m), none, none] [] _ _
  refine xW.at1 hm ?_
  have hD : ovD [m] := ovD_1
  have hL : ovL A.2.1 [m] := fun b hb => by simp at hb; omega
  refine x_aload_n dJ5_sequencedKeySet_0 rfl ?_
  refine x_get fgJ5_117_12 dJ5_sequencedKeySet_1 (Or.inl (ov_at hD (i := 0) rfl)) rfl ?_
  refine x_astore_nN dJ5_sequencedKeySet_4 (by decide) rfl ?_
  refine x_aload_nN dJ5_sequencedKeySet_5 rfl ?_
  refine x_nn_F dJ5_sequencedKeySet_6 ?_
  refine v_new nwJ5_121 dJ5_sequencedKeySet_9 ?_
  have hD1_1 := ovD_cons hL hD
  have hL1_1 := ovL_cons hL
  refine x_dup dJ5_sequencedKeySet_12 rfl ?_
  refine x_aload_n dJ5_sequencedKeySet_13 rfl ?_
  refine x_iconst (v := 0) dJ5_sequencedKeySet_14 rfl ?_
  refine x_ciN ciJ5_123 dJ5_sequencedKeySet_15 (c_J46_init _ _ _ m (by exact ov_at hD1_1 (i := 0) rfl)) rfl ?_
  refine xW.eqA (ov_up hD1_1 (i := 0) rfl) ?_
  refine x_astore_n dJ5_sequencedKeySet_18 (by decide) rfl ?_
  refine x_aload_n dJ5_sequencedKeySet_19 rfl ?_
  refine x_aload_n dJ5_sequencedKeySet_20 rfl ?_
  refine v_put hD1_1 (i := 1) rfl fpJ5_117_12 dJ5_sequencedKeySet_21 ⟨rfl, rfl⟩ (by exact Nat.le_of_ble_eq_true rfl) ?_
  refine x_aload_n dJ5_sequencedKeySet_24 rfl ?_
  exact x_areturn dJ5_sequencedKeySet_25 rfl (Or.inl ⟨_, rfl⟩) (Or.inr ⟨_, rfl⟩) ⟨rfl, rfl⟩
theorem c_J5_keySet (g : xG) (A : xA) (m : Nat) (t0 : Value) (es ks vs hd tl : Option Nat) (c : Nat) (mc th : Int32) (hm : A.1 m = some (xLg t0 es c mc th ks vs hd tl)) (hlt : m < A.2.1) (hv : ∀ w, ks = some w → A.1 w = some (xVw 23 m)) (hok : xOk g A) : xC g iJ5_keySet 5 [.ref m] A (xRs fun u A' => ∃ w, u = some (.ref w) ∧ A'.1 w = some (xVw 23 m) ∧ w < A'.2.1 ∧ A'.1 m = some (xLg t0 es c mc th (some w) vs hd tl) ∧ (∀ r, r < A.2.1 → r ≠ m → A'.1 r = A.1 r) ∧ (ks = some w ∨ A.2.1 ≤ w) ∧ xBd A A' 1 2) := by
  show xW g _ _ 0 [some (.ref m)] [] _ _
  refine x_aload_n dJ5_keySet_0 rfl ?_
  cases ks with
  | none =>
    refine x_cvV (q := (RJ5, TJ5, 12)) cvJ5_113_J5 dJ5_keySet_1 (Or.inl hm) rfl (c_seqKeySet_n _ _ m t0 es vs hd tl c mc th hm hlt) rfl ?_
    refine x_areturn dJ5_keySet_4 rfl (Or.inl ⟨_, rfl⟩) (Or.inr ⟨_, rfl⟩) ⟨_, rfl, A.2.1, rfl, xup_self, Nat.lt_succ_self _, ?_, fun r h1 h2 => ?_, Or.inr (Nat.le_refl _), Nat.le_succ _, Nat.le_refl _, Nat.le_refl _⟩
    · show (xup (xup (xbp A 2) m _) A.2.1 _).1 m = _
      rw [xup_ne (Nat.ne_of_lt hlt), xup_self]
    · show (xup (xup (xbp A 2) m _) A.2.1 _).1 r = _
      rw [xup_ne (Nat.ne_of_lt h1), xup_ne h2]
      rfl
  | some w =>
    have hw := hv w rfl
    refine x_cvV (q := (RJ5, TJ5, 12)) cvJ5_113_J5 dJ5_keySet_1 (Or.inl hm) rfl (c_seqKeySet_y _ _ w m t0 es vs hd tl c mc th hm hw) rfl ?_
    exact x_areturn dJ5_keySet_4 rfl (Or.inl ⟨_, rfl⟩) (Or.inr ⟨_, rfl⟩) ⟨_, rfl, w, rfl, hw, (hok.2 w _ hw).2, hm, fun r _ _ => rfl, Or.inl rfl, Nat.le_refl _, Nat.le_add_right _ _, Nat.le_add_right _ _⟩
theorem c_seqValues_y (g : xG) (A : xA) (w : Nat) (m : Nat) (t0 : Value) (es ks hd tl : Option Nat) (c : Nat) (mc th : Int32) (hm : A.1 m = some (xLg t0 es c mc th ks (some w) hd tl)) (hw : A.1 w = some (xVw 24 m)) : xC g iJ5_sequencedValues 4 [.ref m] A (xRet (some (.ref w)) A) := by
  show xW g _ _ 0 [some (.ref m), none, none] [] _ _
  refine x_aload_n dJ5_sequencedValues_0 rfl ?_
  refine x_get fgJ5_139_12 dJ5_sequencedValues_1 (Or.inl hm) rfl ?_
  refine x_astore_n dJ5_sequencedValues_4 (by decide) rfl ?_
  refine x_aload_n dJ5_sequencedValues_5 rfl ?_
  refine x_nn_T (tgt := 26) dJ5_sequencedValues_6 (by decide) ?_
  refine x_aload_n dJ5_sequencedValues_26 rfl ?_
  refine x_castY dJ5_sequencedValues_27 q3000 (Or.inl hw) (q := (RJ49, TJ49, 2)) rfl (Or.inr q4277) ?_
  exact x_areturn dJ5_sequencedValues_30 rfl (Or.inl ⟨_, rfl⟩) (Or.inr ⟨_, rfl⟩) ⟨rfl, rfl⟩
theorem c_seqValues_n (g : xG) (A : xA) (m : Nat) (t0 : Value) (es ks hd tl : Option Nat) (c : Nat) (mc th : Int32) (hm : A.1 m = some (xLg t0 es c mc th ks (none) hd tl)) (hlt : m < A.2.1) : xC g iJ5_sequencedValues 4 [.ref m] A (xRet (some (.ref A.2.1)) (ov (xbp A 2) [(A.2.1, xVw 24 m), (m, (xLg t0 es c mc th ks (some A.2.1) hd tl))])) := by
  show xW g _ _ 0 [some (.ref m), none, none] [] _ _
  refine xW.at1 hm ?_
  have hD : ovD [m] := ovD_1
  have hL : ovL A.2.1 [m] := fun b hb => by simp at hb; omega
  refine x_aload_n dJ5_sequencedValues_0 rfl ?_
  refine x_get fgJ5_139_12 dJ5_sequencedValues_1 (Or.inl (ov_at hD (i := 0) rfl)) rfl ?_
  refine x_astore_nN dJ5_sequencedValues_4 (by decide) rfl ?_
  refine x_aload_nN dJ5_sequencedValues_5 rfl ?_
  refine x_nn_F dJ5_sequencedValues_6 ?_
  refine v_new nwJ5_143 dJ5_sequencedValues_9 ?_
  have hD1_1 := ovD_cons hL hD
  have hL1_1 := ovL_cons hL
  refine x_dup dJ5_sequencedValues_12 rfl ?_
  refine x_aload_n dJ5_sequencedValues_13 rfl ?_
  refine x_iconst (v := 0) dJ5_sequencedValues_14 rfl ?_
  refine x_ciN ciJ5_145 dJ5_sequencedValues_15 (c_J49_init _ _ _ m (by exact ov_at hD1_1 (i := 0) rfl)) rfl ?_
  refine xW.eqA (ov_up hD1_1 (i := 0) rfl) ?_
  refine x_astore_n dJ5_sequencedValues_18 (by decide) rfl ?_
  refine x_aload_n dJ5_sequencedValues_19 rfl ?_
  refine x_aload_n dJ5_sequencedValues_20 rfl ?_
  refine v_put hD1_1 (i := 1) rfl fpJ5_139_12 dJ5_sequencedValues_21 ⟨rfl, rfl⟩ (by exact Nat.le_of_ble_eq_true rfl) ?_
  refine x_aload_n dJ5_sequencedValues_24 rfl ?_
  exact x_areturn dJ5_sequencedValues_25 rfl (Or.inl ⟨_, rfl⟩) (Or.inr ⟨_, rfl⟩) ⟨rfl, rfl⟩
theorem c_J5_values (g : xG) (A : xA) (m : Nat) (t0 : Value) (es ks vs hd tl : Option Nat) (c : Nat) (mc th : Int32) (hm : A.1 m = some (xLg t0 es c mc th ks vs hd tl)) (hlt : m < A.2.1) (hv : ∀ w, vs = some w → A.1 w = some (xVw 24 m)) (hok : xOk g A) : xC g iJ5_values 5 [.ref m] A (xRs fun u A' => ∃ w, u = some (.ref w) ∧ A'.1 w = some (xVw 24 m) ∧ w < A'.2.1 ∧ A'.1 m = some (xLg t0 es c mc th ks (some w) hd tl) ∧ (∀ r, r < A.2.1 → r ≠ m → A'.1 r = A.1 r) ∧ (vs = some w ∨ A.2.1 ≤ w) ∧ xBd A A' 1 2) := by
  show xW g _ _ 0 [some (.ref m)] [] _ _
  refine x_aload_n dJ5_values_0 rfl ?_
  cases vs with
  | none =>
    refine x_cvV (q := (RJ5, TJ5, 12)) cvJ5_135_J5 dJ5_values_1 (Or.inl hm) rfl (c_seqValues_n _ _ m t0 es ks hd tl c mc th hm hlt) rfl ?_
    refine x_areturn dJ5_values_4 rfl (Or.inl ⟨_, rfl⟩) (Or.inr ⟨_, rfl⟩) ⟨_, rfl, A.2.1, rfl, xup_self, Nat.lt_succ_self _, ?_, fun r h1 h2 => ?_, Or.inr (Nat.le_refl _), Nat.le_succ _, Nat.le_refl _, Nat.le_refl _⟩
    · show (xup (xup (xbp A 2) m _) A.2.1 _).1 m = _
      rw [xup_ne (Nat.ne_of_lt hlt), xup_self]
    · show (xup (xup (xbp A 2) m _) A.2.1 _).1 r = _
      rw [xup_ne (Nat.ne_of_lt h1), xup_ne h2]
      rfl
  | some w =>
    have hw := hv w rfl
    refine x_cvV (q := (RJ5, TJ5, 12)) cvJ5_135_J5 dJ5_values_1 (Or.inl hm) rfl (c_seqValues_y _ _ w m t0 es ks hd tl c mc th hm hw) rfl ?_
    exact x_areturn dJ5_values_4 rfl (Or.inl ⟨_, rfl⟩) (Or.inr ⟨_, rfl⟩) ⟨_, rfl, w, rfl, hw, (hok.2 w _ hw).2, hm, fun r _ _ => rfl, Or.inl rfl, Nat.le_refl _, Nat.le_add_right _ _, Nat.le_add_right _ _⟩
theorem c_hasNext_21_T (g : xG) (A : xA) (p m : Nat) (x : Nat) (cu : Option Nat) (em : Int32) (hp : A.1 p = some (xLi 21 (some x) cu em m)) : xC g iJ42_hasNext 0 [.ref p] A (xRet (some (.int 1)) A) := by
  show xW g _ _ 0 [some (.ref p)] [] _ _
  refine x_aload_n dJ42_hasNext_0 rfl ?_
  refine x_get fgJ42_26_21 dJ42_hasNext_1 (Or.inl hp) rfl ?_
  refine x_n_F dJ42_hasNext_4 ?_
  refine x_iconst (v := 1) dJ42_hasNext_7 rfl ?_
  refine x_goto (tgt := 12) dJ42_hasNext_8 (by decide) ?_
  exact x_ireturn dJ42_hasNext_12 rfl rfl ⟨rfl, rfl⟩
theorem c_hasNext_21_F (g : xG) (A : xA) (p m : Nat) (cu : Option Nat) (em : Int32) (hp : A.1 p = some (xLi 21 none cu em m)) : xC g iJ42_hasNext 0 [.ref p] A (xRet (some (.int 0)) A) := by
  show xW g _ _ 0 [some (.ref p)] [] _ _
  refine x_aload_n dJ42_hasNext_0 rfl ?_
  refine x_get fgJ42_26_21 dJ42_hasNext_1 (Or.inl hp) rfl ?_
  refine x_n_T (tgt := 11) dJ42_hasNext_4 (by decide) ?_
  refine x_iconst (v := 0) dJ42_hasNext_11 rfl ?_
  exact x_ireturn dJ42_hasNext_12 rfl rfl ⟨rfl, rfl⟩
theorem c_nextNode_21 (g : xG) (A : xA) (p x h ky va : Nat) (m : Nat) (t0 : Value) (es ks vs hd tl : Option Nat) (c : Nat) (mc th : Int32) (cu nn bf af : Option Nat) (hp : A.1 p = some (xLi 21 (some x) cu mc m)) (hm : A.1 m = some (xLg t0 es c mc th ks vs hd tl)) (hx : A.1 x = some (xNd h ky va nn bf af)) : xC g iJ42_nextNode 0 [.ref p] A (xRet (some (.ref x)) (xup A p (xLi 21 af (some x) mc m))) := by
  show xW g _ _ 0 [some (.ref p), none] [] _ _
  refine xW.at1 hp ?_
  have hD : ovD [p] := ovD_1
  refine x_aload_n dJ42_nextNode_0 rfl ?_
  refine x_get fgJ42_26_21 dJ42_nextNode_1 (Or.inl (ov_at hD (i := 0) rfl)) rfl ?_
  refine x_astore_n dJ42_nextNode_4 (by decide) rfl ?_
  refine x_aload_n dJ42_nextNode_5 rfl ?_
  refine x_get fgJ42_1_21 dJ42_nextNode_6 (Or.inl (ov_at hD (i := 0) rfl)) rfl ?_
  refine x_get fgJ42_29_12 dJ42_nextNode_9 (Or.inl ((ov_out (by intro b hb; simp at hb; subst hb; exact xdf hm hp (xne_c (by decide)))).trans hm)) rfl ?_
  refine x_aload_n dJ42_nextNode_12 rfl ?_
  refine x_get fgJ42_33_21 dJ42_nextNode_13 (Or.inl (ov_at hD (i := 0) rfl)) rfl ?_
  refine x_icmp_eqT (tgt := 27) dJ42_nextNode_16 (by decide) rfl ?_
  refine x_aload_n dJ42_nextNode_27 rfl ?_
  refine x_nn_T (tgt := 39) dJ42_nextNode_28 (by decide) ?_
  refine x_aload_n dJ42_nextNode_39 rfl ?_
  refine x_aload_n dJ42_nextNode_40 rfl ?_
  refine v_put hD (i := 0) rfl fpJ42_36_21 dJ42_nextNode_41 ⟨rfl, rfl⟩ (by exact Nat.le_of_ble_eq_true rfl) ?_
  refine x_aload_n dJ42_nextNode_44 rfl ?_
  refine x_aload_n dJ42_nextNode_45 rfl ?_
  refine x_get fgJ42_13_21 dJ42_nextNode_46 (Or.inl (ov_at hD (i := 0) rfl)) rfl ?_
  refine x_if_eqT (tgt := 59) dJ42_nextNode_49 (by decide) rfl ?_
  refine x_aload_n dJ42_nextNode_59 rfl ?_
  refine x_get fgJ42_50_17 dJ42_nextNode_60 (Or.inl ((ov_out (by intro b hb; simp at hb; subst hb; exact xdf hx hp (xne_c (by decide)))).trans hx)) rfl ?_
  refine v_put hD (i := 0) rfl fpJ42_26_21 dJ42_nextNode_63 xfit_rf (by exact Nat.le_of_ble_eq_true rfl) ?_
  refine x_aload_n dJ42_nextNode_66 rfl ?_
  exact x_areturn dJ42_nextNode_67 rfl (Or.inl ⟨_, rfl⟩) (Or.inr ⟨_, rfl⟩) ⟨rfl, rfl⟩
theorem c_J43_next_2 (g : xG) (A : xA) (p x h ky va : Nat) (m : Nat) (t0 : Value) (es ks vs hd tl : Option Nat) (c : Nat) (mc th : Int32) (cu nn bf af : Option Nat) (hp : A.1 p = some (xLi 21 (some x) cu mc m)) (hm : A.1 m = some (xLg t0 es c mc th ks vs hd tl)) (hx : A.1 x = some (xNd h ky va nn bf af)) : xC g iJ43_next_2 1 [.ref p] A (xRet (some (.ref x)) (xup A p (xLi 21 af (some x) mc m))) := by
  show xW g _ _ 0 [some (.ref p)] [] _ _
  refine x_aload_n dJ43_next_2_0 rfl ?_
  refine x_cvV (q := (RJ43, TJ43, 5)) cvJ43_7_J43 dJ43_next_2_1 (Or.inl hp) rfl (c_nextNode_21 _ _ _ x h ky va m t0 es ks vs hd tl c mc th cu nn bf af hp hm hx) rfl ?_
  exact x_areturn dJ43_next_2_4 rfl (Or.inl ⟨_, rfl⟩) (Or.inr ⟨_, rfl⟩) ⟨rfl, rfl⟩
theorem c_next_21 (g : xG) (A : xA) (p x h ky va : Nat) (m : Nat) (t0 : Value) (es ks vs hd tl : Option Nat) (c : Nat) (mc th : Int32) (cu nn bf af : Option Nat) (hp : A.1 p = some (xLi 21 (some x) cu mc m)) (hm : A.1 m = some (xLg t0 es c mc th ks vs hd tl)) (hx : A.1 x = some (xNd h ky va nn bf af)) : xC g iJ43_next 2 [.ref p] A (xRet (some (.ref x)) (xup A p (xLi 21 af (some x) mc m))) := by
  show xW g _ _ 0 [some (.ref p)] [] _ _
  refine x_aload_n dJ43_next_0 rfl ?_
  refine x_cvV (q := (RJ43, TJ43, 5)) cvJ43_13_J43 dJ43_next_1 (Or.inl hp) rfl (c_J43_next_2 _ _ _ x h ky va m t0 es ks vs hd tl c mc th cu nn bf af hp hm hx) rfl ?_
  exact x_areturn dJ43_next_4 rfl (Or.inl ⟨_, rfl⟩) (Or.inr ⟨_, rfl⟩) ⟨rfl, rfl⟩
theorem c_hasNext_22_T (g : xG) (A : xA) (p m : Nat) (x : Nat) (cu : Option Nat) (em : Int32) (hp : A.1 p = some (xLi 22 (some x) cu em m)) : xC g iJ42_hasNext 0 [.ref p] A (xRet (some (.int 1)) A) := by
  show xW g _ _ 0 [some (.ref p)] [] _ _
  refine x_aload_n dJ42_hasNext_0 rfl ?_
  refine x_get fgJ42_26_22 dJ42_hasNext_1 (Or.inl hp) rfl ?_
  refine x_n_F dJ42_hasNext_4 ?_
  refine x_iconst (v := 1) dJ42_hasNext_7 rfl ?_
  refine x_goto (tgt := 12) dJ42_hasNext_8 (by decide) ?_
  exact x_ireturn dJ42_hasNext_12 rfl rfl ⟨rfl, rfl⟩
theorem c_hasNext_22_F (g : xG) (A : xA) (p m : Nat) (cu : Option Nat) (em : Int32) (hp : A.1 p = some (xLi 22 none cu em m)) : xC g iJ42_hasNext 0 [.ref p] A (xRet (some (.int 0)) A) := by
  show xW g _ _ 0 [some (.ref p)] [] _ _
  refine x_aload_n dJ42_hasNext_0 rfl ?_
  refine x_get fgJ42_26_22 dJ42_hasNext_1 (Or.inl hp) rfl ?_
  refine x_n_T (tgt := 11) dJ42_hasNext_4 (by decide) ?_
  refine x_iconst (v := 0) dJ42_hasNext_11 rfl ?_
  exact x_ireturn dJ42_hasNext_12 rfl rfl ⟨rfl, rfl⟩
theorem c_nextNode_22 (g : xG) (A : xA) (p x h ky va : Nat) (m : Nat) (t0 : Value) (es ks vs hd tl : Option Nat) (c : Nat) (mc th : Int32) (cu nn bf af : Option Nat) (hp : A.1 p = some (xLi 22 (some x) cu mc m)) (hm : A.1 m = some (xLg t0 es c mc th ks vs hd tl)) (hx : A.1 x = some (xNd h ky va nn bf af)) : xC g iJ42_nextNode 0 [.ref p] A (xRet (some (.ref x)) (xup A p (xLi 22 af (some x) mc m))) := by
  show xW g _ _ 0 [some (.ref p), none] [] _ _
  refine xW.at1 hp ?_
  have hD : ovD [p] := ovD_1
  refine x_aload_n dJ42_nextNode_0 rfl ?_
  refine x_get fgJ42_26_22 dJ42_nextNode_1 (Or.inl (ov_at hD (i := 0) rfl)) rfl ?_
  refine x_astore_n dJ42_nextNode_4 (by decide) rfl ?_
  refine x_aload_n dJ42_nextNode_5 rfl ?_
  refine x_get fgJ42_1_22 dJ42_nextNode_6 (Or.inl (ov_at hD (i := 0) rfl)) rfl ?_
  refine x_get fgJ42_29_12 dJ42_nextNode_9 (Or.inl ((ov_out (by intro b hb; simp at hb; subst hb; exact xdf hm hp (xne_c (by decide)))).trans hm)) rfl ?_
  refine x_aload_n dJ42_nextNode_12 rfl ?_
  refine x_get fgJ42_33_22 dJ42_nextNode_13 (Or.inl (ov_at hD (i := 0) rfl)) rfl ?_
  refine x_icmp_eqT (tgt := 27) dJ42_nextNode_16 (by decide) rfl ?_
  refine x_aload_n dJ42_nextNode_27 rfl ?_
  refine x_nn_T (tgt := 39) dJ42_nextNode_28 (by decide) ?_
  refine x_aload_n dJ42_nextNode_39 rfl ?_
  refine x_aload_n dJ42_nextNode_40 rfl ?_
  refine v_put hD (i := 0) rfl fpJ42_36_22 dJ42_nextNode_41 ⟨rfl, rfl⟩ (by exact Nat.le_of_ble_eq_true rfl) ?_
  refine x_aload_n dJ42_nextNode_44 rfl ?_
  refine x_aload_n dJ42_nextNode_45 rfl ?_
  refine x_get fgJ42_13_22 dJ42_nextNode_46 (Or.inl (ov_at hD (i := 0) rfl)) rfl ?_
  refine x_if_eqT (tgt := 59) dJ42_nextNode_49 (by decide) rfl ?_
  refine x_aload_n dJ42_nextNode_59 rfl ?_
  refine x_get fgJ42_50_17 dJ42_nextNode_60 (Or.inl ((ov_out (by intro b hb; simp at hb; subst hb; exact xdf hx hp (xne_c (by decide)))).trans hx)) rfl ?_
  refine v_put hD (i := 0) rfl fpJ42_26_22 dJ42_nextNode_63 xfit_rf (by exact Nat.le_of_ble_eq_true rfl) ?_
  refine x_aload_n dJ42_nextNode_66 rfl ?_
  exact x_areturn dJ42_nextNode_67 rfl (Or.inl ⟨_, rfl⟩) (Or.inr ⟨_, rfl⟩) ⟨rfl, rfl⟩
theorem c_J31_getKey (g : xG) (A : xA) (x h ky va : Nat) (nn bf af : Option Nat) (hx : A.1 x = some (xNd h ky va nn bf af)) : xC g iJ31_getKey 0 [.ref x] A (xRet (some (.ref ky)) A) := by
  show xW g _ _ 0 [some (.ref x)] [] _ _
  refine x_aload_n dJ31_getKey_0 rfl ?_
  refine x_get fgJ31_13_17 dJ31_getKey_1 (Or.inl hx) rfl ?_
  exact x_areturn dJ31_getKey_4 rfl (Or.inl ⟨_, rfl⟩) (Or.inr ⟨_, rfl⟩) ⟨rfl, rfl⟩
theorem c_J31_getValue (g : xG) (A : xA) (x h ky va : Nat) (nn bf af : Option Nat) (hx : A.1 x = some (xNd h ky va nn bf af)) : xC g iJ31_getValue 0 [.ref x] A (xRet (some (.ref va)) A) := by
  show xW g _ _ 0 [some (.ref x)] [] _ _
  refine x_aload_n dJ31_getValue_0 rfl ?_
  refine x_get fgJ31_17_17 dJ31_getValue_1 (Or.inl hx) rfl ?_
  exact x_areturn dJ31_getValue_4 rfl (Or.inl ⟨_, rfl⟩) (Or.inr ⟨_, rfl⟩) ⟨rfl, rfl⟩
theorem c_next_22 (g : xG) (A : xA) (p x h ky va : Nat) (m : Nat) (t0 : Value) (es ks vs hd tl : Option Nat) (c : Nat) (mc th : Int32) (cu nn bf af : Option Nat) (hp : A.1 p = some (xLi 22 (some x) cu mc m)) (hm : A.1 m = some (xLg t0 es c mc th ks vs hd tl)) (hx : A.1 x = some (xNd h ky va nn bf af)) : xC g iJ44_next 2 [.ref p] A (xRet (some (.ref ky)) (xup A p (xLi 22 af (some x) mc m))) := by
  have hx2 : (xup A p (xLi 22 af (some x) mc m)).1 x = some (xNd h ky va nn bf af) := (xup_ne (xdf hx hp (xne_c (by decide)))).trans hx
  show xW g _ _ 0 [some (.ref p)] [] _ _
  refine x_aload_n dJ44_next_0 rfl ?_
  refine x_cvV (q := (RJ44, TJ44, 5)) cvJ44_7_J44 dJ44_next_1 (Or.inl hp) rfl (c_nextNode_22 _ _ _ x h ky va m t0 es ks vs hd tl c mc th cu nn bf af hp hm hx) rfl ?_
  refine x_cvV (q := (RJ32, TJ32, 6)) cvJ44_13_J32 dJ44_next_4 (Or.inl hx2) rfl (c_J31_getKey _ _ x h ky va nn bf af hx2) rfl ?_
  exact x_areturn dJ44_next_7 rfl (Or.inl ⟨_, rfl⟩) (Or.inr ⟨_, rfl⟩) ⟨rfl, rfl⟩
theorem c_hasNext_25_T (g : xG) (A : xA) (p m : Nat) (x : Nat) (cu : Option Nat) (em : Int32) (hp : A.1 p = some (xLi 25 (some x) cu em m)) : xC g iJ42_hasNext 0 [.ref p] A (xRet (some (.int 1)) A) := by
  show xW g _ _ 0 [some (.ref p)] [] _ _
  refine x_aload_n dJ42_hasNext_0 rfl ?_
  refine x_get fgJ42_26_25 dJ42_hasNext_1 (Or.inl hp) rfl ?_
  refine x_n_F dJ42_hasNext_4 ?_
  refine x_iconst (v := 1) dJ42_hasNext_7 rfl ?_
  refine x_goto (tgt := 12) dJ42_hasNext_8 (by decide) ?_
  exact x_ireturn dJ42_hasNext_12 rfl rfl ⟨rfl, rfl⟩
theorem c_hasNext_25_F (g : xG) (A : xA) (p m : Nat) (cu : Option Nat) (em : Int32) (hp : A.1 p = some (xLi 25 none cu em m)) : xC g iJ42_hasNext 0 [.ref p] A (xRet (some (.int 0)) A) := by
  show xW g _ _ 0 [some (.ref p)] [] _ _
  refine x_aload_n dJ42_hasNext_0 rfl ?_
  refine x_get fgJ42_26_25 dJ42_hasNext_1 (Or.inl hp) rfl ?_
  refine x_n_T (tgt := 11) dJ42_hasNext_4 (by decide) ?_
  refine x_iconst (v := 0) dJ42_hasNext_11 rfl ?_
  exact x_ireturn dJ42_hasNext_12 rfl rfl ⟨rfl, rfl⟩
theorem c_nextNode_25 (g : xG) (A : xA) (p x h ky va : Nat) (m : Nat) (t0 : Value) (es ks vs hd tl : Option Nat) (c : Nat) (mc th : Int32) (cu nn bf af : Option Nat) (hp : A.1 p = some (xLi 25 (some x) cu mc m)) (hm : A.1 m = some (xLg t0 es c mc th ks vs hd tl)) (hx : A.1 x = some (xNd h ky va nn bf af)) : xC g iJ42_nextNode 0 [.ref p] A (xRet (some (.ref x)) (xup A p (xLi 25 af (some x) mc m))) := by
  show xW g _ _ 0 [some (.ref p), none] [] _ _
  refine xW.at1 hp ?_
  have hD : ovD [p] := ovD_1
  refine x_aload_n dJ42_nextNode_0 rfl ?_
  refine x_get fgJ42_26_25 dJ42_nextNode_1 (Or.inl (ov_at hD (i := 0) rfl)) rfl ?_
  refine x_astore_n dJ42_nextNode_4 (by decide) rfl ?_
  refine x_aload_n dJ42_nextNode_5 rfl ?_
  refine x_get fgJ42_1_25 dJ42_nextNode_6 (Or.inl (ov_at hD (i := 0) rfl)) rfl ?_
  refine x_get fgJ42_29_12 dJ42_nextNode_9 (Or.inl ((ov_out (by intro b hb; simp at hb; subst hb; exact xdf hm hp (xne_c (by decide)))).trans hm)) rfl ?_
  refine x_aload_n dJ42_nextNode_12 rfl ?_
  refine x_get fgJ42_33_25 dJ42_nextNode_13 (Or.inl (ov_at hD (i := 0) rfl)) rfl ?_
  refine x_icmp_eqT (tgt := 27) dJ42_nextNode_16 (by decide) rfl ?_
  refine x_aload_n dJ42_nextNode_27 rfl ?_
  refine x_nn_T (tgt := 39) dJ42_nextNode_28 (by decide) ?_
  refine x_aload_n dJ42_nextNode_39 rfl ?_
  refine x_aload_n dJ42_nextNode_40 rfl ?_
  refine v_put hD (i := 0) rfl fpJ42_36_25 dJ42_nextNode_41 ⟨rfl, rfl⟩ (by exact Nat.le_of_ble_eq_true rfl) ?_
  refine x_aload_n dJ42_nextNode_44 rfl ?_
  refine x_aload_n dJ42_nextNode_45 rfl ?_
  refine x_get fgJ42_13_25 dJ42_nextNode_46 (Or.inl (ov_at hD (i := 0) rfl)) rfl ?_
  refine x_if_eqT (tgt := 59) dJ42_nextNode_49 (by decide) rfl ?_
  refine x_aload_n dJ42_nextNode_59 rfl ?_
  refine x_get fgJ42_50_17 dJ42_nextNode_60 (Or.inl ((ov_out (by intro b hb; simp at hb; subst hb; exact xdf hx hp (xne_c (by decide)))).trans hx)) rfl ?_
  refine v_put hD (i := 0) rfl fpJ42_26_25 dJ42_nextNode_63 xfit_rf (by exact Nat.le_of_ble_eq_true rfl) ?_
  refine x_aload_n dJ42_nextNode_66 rfl ?_
  exact x_areturn dJ42_nextNode_67 rfl (Or.inl ⟨_, rfl⟩) (Or.inr ⟨_, rfl⟩) ⟨rfl, rfl⟩
theorem c_next_25 (g : xG) (A : xA) (p x h ky va : Nat) (m : Nat) (t0 : Value) (es ks vs hd tl : Option Nat) (c : Nat) (mc th : Int32) (cu nn bf af : Option Nat) (hp : A.1 p = some (xLi 25 (some x) cu mc m)) (hm : A.1 m = some (xLg t0 es c mc th ks vs hd tl)) (hx : A.1 x = some (xNd h ky va nn bf af)) : xC g iJ51_next 2 [.ref p] A (xRet (some (.ref va)) (xup A p (xLi 25 af (some x) mc m))) := by
  have hx2 : (xup A p (xLi 25 af (some x) mc m)).1 x = some (xNd h ky va nn bf af) := (xup_ne (xdf hx hp (xne_c (by decide)))).trans hx
  show xW g _ _ 0 [some (.ref p)] [] _ _
  refine x_aload_n dJ51_next_0 rfl ?_
  refine x_cvV (q := (RJ51, TJ51, 5)) cvJ51_7_J51 dJ51_next_1 (Or.inl hp) rfl (c_nextNode_25 _ _ _ x h ky va m t0 es ks vs hd tl c mc th cu nn bf af hp hm hx) rfl ?_
  refine x_get fgJ51_13_17 dJ51_next_4 (Or.inl hx2) rfl ?_
  exact x_areturn dJ51_next_7 rfl (Or.inl ⟨_, rfl⟩) (Or.inr ⟨_, rfl⟩) ⟨rfl, rfl⟩

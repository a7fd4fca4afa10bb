set_option maxRecDepth 100000
/-! LEAVES of the component: numbers, checks, keys, pegs -/
def mnI (a b : Int32) : Int32 := if a ≤ b then a else b
def mxI (a b : Int32) : Int32 := if b ≤ a then a else b
def cpI (a b : Int32) : Int32 := if a < b then -1 else if a = b then 0 else 1
theorem nle_lt {a b : Int32} (h : b < a) : ¬ a ≤ b := fun k => by
  rw [Int32.lt_iff_toInt_lt] at h
  rw [Int32.le_iff_toInt_le] at k
  omega
theorem le_nlt {a b : Int32} (h : ¬ b < a) : a ≤ b := by
  rw [Int32.lt_iff_toInt_lt] at h
  rw [Int32.le_iff_toInt_le]
  omega
theorem lt_nle {a b : Int32} (h : ¬ a ≤ b) : b < a := by
  rw [Int32.lt_iff_toInt_lt]
  rw [Int32.le_iff_toInt_le] at h
  omega
theorem mxmn (x : Int32) : mxI (-999) (mnI 999 x) = clI x := by
  have e1 : (999 : Int32).toInt = 999 := rfl
  have e2 : (-999 : Int32).toInt = -999 := rfl
  unfold mxI mnI clI
  by_cases h1 : 999 < x
  · have h2 : (999 : Int32) ≤ x := by rw [Int32.lt_iff_toInt_lt] at h1; rw [Int32.le_iff_toInt_le]; omega
    rw [if_pos h2, if_pos h1, if_neg (by decide)]
  · rw [if_neg h1]
    by_cases h2 : (999 : Int32) ≤ x
    · have h3 : x = 999 := by
        rw [Int32.lt_iff_toInt_lt] at h1
        rw [Int32.le_iff_toInt_le] at h2
        exact Int32.toInt_inj.mp (by omega)
      subst h3
      decide
    · rw [if_neg h2]
      by_cases h3 : x < -999
      · have h4 : x ≤ -999 := by rw [Int32.lt_iff_toInt_lt] at h3; rw [Int32.le_iff_toInt_le]; omega
        rw [if_pos h4, if_pos h3]
      · rw [if_neg h3]
        by_cases h4 : x ≤ -999
        · rw [if_pos h4]
          rw [Int32.lt_iff_toInt_lt] at h3
          rw [Int32.le_iff_toInt_le] at h4
          exact Int32.toInt_inj.mp (by omega)
        · rw [if_neg h4]
theorem xfit_rf {o : Option Nat} {C : String} : xfit (.object C) (va_rf o) := by cases o <;> exact ⟨rfl, rfl⟩
theorem c_J18_min (g : xG) (A : xA) (a b : Int32) : xC g iJ18_min 0 [.int a, .int b] A (xRet (some (.int (mnI a b))) A) := by
  show xW g _ _ 0 [some (.int a), some (.int b)] [] _ _
  refine x_iload_n dJ18_min_0 rfl ?_
  refine x_iload_n dJ18_min_1 rfl ?_
  refine x_icmp_gt 9 dJ18_min_2 (by decide) (fun c2 => ?_) (fun c2 => ?_)
  · refine x_iload_n dJ18_min_9 rfl ?_
    exact x_ireturn dJ18_min_10 rfl rfl ⟨by rw [show mnI a b = _ from if_neg (nle_lt c2)], rfl⟩
  · refine x_iload_n dJ18_min_5 rfl ?_
    refine x_goto (tgt := 10) dJ18_min_6 (by decide) ?_
    exact x_ireturn dJ18_min_10 rfl rfl ⟨by rw [show mnI a b = _ from if_pos (le_nlt c2)], rfl⟩
theorem c_J18_max (g : xG) (A : xA) (a b : Int32) : xC g iJ18_max 0 [.int a, .int b] A (xRet (some (.int (mxI a b))) A) := by
  show xW g _ _ 0 [some (.int a), some (.int b)] [] _ _
  refine x_iload_n dJ18_max_0 rfl ?_
  refine x_iload_n dJ18_max_1 rfl ?_
  refine x_icmp_lt 9 dJ18_max_2 (by decide) (fun c2 => ?_) (fun c2 => ?_)
  · refine x_iload_n dJ18_max_9 rfl ?_
    exact x_ireturn dJ18_max_10 rfl rfl ⟨by rw [show mxI a b = _ from if_neg (nle_lt c2)], rfl⟩
  · refine x_iload_n dJ18_max_5 rfl ?_
    refine x_goto (tgt := 10) dJ18_max_6 (by decide) ?_
    exact x_ireturn dJ18_max_10 rfl rfl ⟨by rw [show mxI a b = _ from if_pos (le_nlt c2)], rfl⟩
theorem c_J18_abs (g : xG) (A : xA) (a : Int32) : xC g iJ18_abs 0 [.int a] A (xRet (some (.int (bI a))) A) := by
  show xW g _ _ 0 [some (.int a)] [] _ _
  refine x_iload_n dJ18_abs_0 rfl ?_
  refine x_if_ge 9 dJ18_abs_1 (by decide) (fun c1 => ?_) (fun c1 => ?_)
  · refine x_iload_n dJ18_abs_9 rfl ?_
    exact x_ireturn dJ18_abs_10 rfl rfl ⟨by rw [show bI a = _ from if_neg (fun h => nle_lt h c1)], rfl⟩
  · refine x_iload_n dJ18_abs_4 rfl ?_
    refine x_ineg dJ18_abs_5 ?_
    refine x_goto (tgt := 10) dJ18_abs_6 (by decide) ?_
    exact x_ireturn dJ18_abs_10 rfl rfl ⟨by rw [show bI a = _ from if_pos (by rw [Int32.lt_iff_toInt_lt]; rw [Int32.le_iff_toInt_le] at c1; omega)], rfl⟩
theorem c_J23_compare (g : xG) (A : xA) (a b : Int32) : xC g iJ23_compare 0 [.int a, .int b] A (xRet (some (.int (cpI a b))) A) := by
  show xW g _ _ 0 [some (.int a), some (.int b)] [] _ _
  refine x_iload_n dJ23_compare_0 rfl ?_
  refine x_iload_n dJ23_compare_1 rfl ?_
  refine x_icmp_ge 9 dJ23_compare_2 (by decide) (fun c2 => ?_) (fun c2 => ?_)
  · refine x_iload_n dJ23_compare_9 rfl ?_
    refine x_iload_n dJ23_compare_10 rfl ?_
    refine x_icmp_ne 18 dJ23_compare_11 (by decide) (fun c11 => ?_) (fun c11 => ?_)
    · refine x_iconst (v := 1) dJ23_compare_18 rfl ?_
      exact x_ireturn dJ23_compare_19 rfl rfl ⟨by rw [show cpI a b = _ from (if_neg (fun h => nle_lt h c2)).trans (if_neg c11)], rfl⟩
    · refine x_iconst (v := 0) dJ23_compare_14 rfl ?_
      refine x_goto (tgt := 19) dJ23_compare_15 (by decide) ?_
      exact x_ireturn dJ23_compare_19 rfl rfl ⟨by rw [show cpI a b = _ from (if_neg (fun h => nle_lt h c2)).trans (if_pos c11)], rfl⟩
  · refine x_iconst (v := (-1)) dJ23_compare_5 rfl ?_
    refine x_goto (tgt := 19) dJ23_compare_6 (by decide) ?_
    exact x_ireturn dJ23_compare_19 rfl rfl ⟨by rw [show cpI a b = _ from if_pos (by rw [Int32.lt_iff_toInt_lt]; rw [Int32.le_iff_toInt_le] at c2; omega)], rfl⟩
theorem c_X1_isIn (g : xG) (A : xA) (a lo hi : Int32) : xC g iX1_isIn 0 [.int a, .int lo, .int hi] A (xRet (some (.int (inI a lo hi))) A) := by
  show xW g _ _ 0 [some (.int a), some (.int lo), some (.int hi)] [] _ _
  refine x_iload_n dX1_isIn_0 rfl ?_
  refine x_iload_n dX1_isIn_1 rfl ?_
  refine x_icmp_lt 14 dX1_isIn_2 (by decide) (fun c2 => ?_) (fun c2 => ?_)
  · refine x_iconst (v := 0) dX1_isIn_14 rfl ?_
    exact x_ireturn dX1_isIn_15 rfl rfl ⟨by rw [show inI a lo hi = _ from if_neg (fun h => nle_lt c2 h.1)], rfl⟩
  · refine x_iload_n dX1_isIn_5 rfl ?_
    refine x_iload_n dX1_isIn_6 rfl ?_
    refine x_icmp_gt 14 dX1_isIn_7 (by decide) (fun c7 => ?_) (fun c7 => ?_)
    · refine x_iconst (v := 0) dX1_isIn_14 rfl ?_
      exact x_ireturn dX1_isIn_15 rfl rfl ⟨by rw [show inI a lo hi = _ from if_neg (fun h => nle_lt c7 h.2)], rfl⟩
    · refine x_iconst (v := 1) dX1_isIn_10 rfl ?_
      refine x_goto (tgt := 15) dX1_isIn_11 (by decide) ?_
      exact x_ireturn dX1_isIn_15 rfl rfl ⟨by rw [show inI a lo hi = _ from if_pos ⟨le_nlt c2, le_nlt c7⟩], rfl⟩
theorem c_X1_checkIndex_ok (g : xG) (A : xA) (b : Int32) (hb : ¬ b = 0) : xC g iX1_checkIndex 0 [.int b] A (xRet none A) := by
  show xW g _ _ 0 [some (.int b)] [] _ _
  refine x_iload_n dX1_checkIndex_0 rfl ?_
  refine x_if_neT (tgt := 12) dX1_checkIndex_1 (by decide) hb ?_
  exact x_return dX1_checkIndex_12 rfl ⟨rfl, rfl⟩
theorem c_X1_checkIndex_no (g : xG) (A : xA) (hl : g.1.stackTraces = false) : xC g iX1_checkIndex 12 [.int 0] A (xThr 26 A) := by
  show xW g _ _ 0 [some (.int 0)] [] _ _
  refine x_iload_n dX1_checkIndex_0 rfl ?_
  refine x_if_neF dX1_checkIndex_1 12 (by decide) rfl ?_
  exact x_throw0 (k9 := 26) (names := ["java/lang/RuntimeException", "java/lang/Exception"]) rfl (by decide) (by decide) hl q2723 q191 (by decide) (by decide) dX1_checkIndex_4 dX1_checkIndex_7 dX1_checkIndex_8 dX1_checkIndex_11 (by decide) (by decide) (by exact Nat.le_of_ble_eq_true rfl) ⟨rfl, rfl⟩
theorem c_X1_checkArgument_ok (g : xG) (A : xA) (b : Int32) (hb : ¬ b = 0) : xC g iX1_checkArgument 0 [.int b] A (xRet none A) := by
  show xW g _ _ 0 [some (.int b)] [] _ _
  refine x_iload_n dX1_checkArgument_0 rfl ?_
  refine x_if_neT (tgt := 12) dX1_checkArgument_1 (by decide) hb ?_
  exact x_return dX1_checkArgument_12 rfl ⟨rfl, rfl⟩
theorem c_X1_checkArgument_no (g : xG) (A : xA) (hl : g.1.stackTraces = false) : xC g iX1_checkArgument 12 [.int 0] A (xThr 27 A) := by
  show xW g _ _ 0 [some (.int 0)] [] _ _
  refine x_iload_n dX1_checkArgument_0 rfl ?_
  refine x_if_neF dX1_checkArgument_1 12 (by decide) rfl ?_
  exact x_throw0 (k9 := 27) (names := ["java/lang/RuntimeException", "java/lang/Exception"]) rfl (by decide) (by decide) hl q2747 q145 (by decide) (by decide) dX1_checkArgument_4 dX1_checkArgument_7 dX1_checkArgument_8 dX1_checkArgument_11 (by decide) (by decide) (by exact Nat.le_of_ble_eq_true rfl) ⟨rfl, rfl⟩
theorem c_X1_checkState_ok (g : xG) (A : xA) (b : Int32) (hb : ¬ b = 0) : xC g iX1_checkState 0 [.int b] A (xRet none A) := by
  show xW g _ _ 0 [some (.int b)] [] _ _
  refine x_iload_n dX1_checkState_0 rfl ?_
  refine x_if_neT (tgt := 12) dX1_checkState_1 (by decide) hb ?_
  exact x_return dX1_checkState_12 rfl ⟨rfl, rfl⟩
theorem c_X1_checkState_no (g : xG) (A : xA) (hl : g.1.stackTraces = false) : xC g iX1_checkState 12 [.int 0] A (xThr 28 A) := by
  show xW g _ _ 0 [some (.int 0)] [] _ _
  refine x_iload_n dX1_checkState_0 rfl ?_
  refine x_if_neF dX1_checkState_1 12 (by decide) rfl ?_
  exact x_throw0 (k9 := 28) (names := ["java/lang/RuntimeException", "java/lang/Exception"]) rfl (by decide) (by decide) hl q2755 q163 (by decide) (by decide) dX1_checkState_4 dX1_checkState_7 dX1_checkState_8 dX1_checkState_11 (by decide) (by decide) (by exact Nat.le_of_ble_eq_true rfl) ⟨rfl, rfl⟩
theorem c_X5_init (g : xG) (A : xA) (p : Nat) (f k f0 k0 : Int32) (hp : A.1 p = some (.inr (4, [.int f0, .int k0]))) : xC g iX5_init 1 [.ref p, .int f, .int k] A (xRet none (xup A p (.inr (4, [.int f, .int k])))) := by
  show xW g _ _ 0 [some (.ref p), some (.int f), some (.int k)] [] _ _
  refine xW.at1 hp ?_
  have hD : ovD [p] := ovD_1
  refine x_aload_n dX5_init_0 rfl ?_
  refine x_objInit q1319 q204 q205 dX5_init_1 (by decide) (by exact Nat.le_of_ble_eq_true rfl) ?_
  refine x_aload_n dX5_init_4 rfl ?_
  refine x_iload_n dX5_init_5 rfl ?_
  refine v_putF hD (i := 0) rfl fFX5_9_4 rfl dX5_init_6 ⟨rfl, rfl⟩ (by exact Nat.le_of_ble_eq_true rfl) ?_
  refine x_aload_n dX5_init_9 rfl ?_
  refine x_iload_n dX5_init_10 rfl ?_
  refine v_putF hD (i := 0) rfl fFX5_15_4 rfl dX5_init_11 ⟨rfl, rfl⟩ (by exact Nat.le_of_ble_eq_true rfl) ?_
  exact x_return dX5_init_14 rfl ⟨rfl, rfl⟩
theorem c_X5_hashCode (g : xG) (A : xA) (p : Nat) (f k : Nat) (hp : A.1 p = some (.inr (4, [.int (nI f), .int (nI k)]))) : xC g iX5_hashCode 1 [.ref p] A (xRet (some (.int (nI (4 * f + k)))) A) := by
  show xW g _ _ 0 [some (.ref p)] [] _ _
  refine xW.at1 hp ?_
  have hD : ovD [p] := ovD_1
  refine x_iconst (v := 4) dX5_hashCode_0 rfl ?_
  refine x_aload_n dX5_hashCode_1 rfl ?_
  refine v_get hD (i := 0) rfl fgX5_9_4 dX5_hashCode_2 rfl ?_
  refine x_imul dX5_hashCode_5 ?_
  refine x_top (y := nI (4 * f)) (pk_mul 4 f) ?_
  refine x_aload_n dX5_hashCode_6 rfl ?_
  refine v_get hD (i := 0) rfl fgX5_15_4 dX5_hashCode_7 rfl ?_
  refine x_iadd dX5_hashCode_10 ?_
  refine x_top (y := nI (4 * f + k)) (nI_add (4 * f) k) ?_
  exact x_ireturn dX5_hashCode_11 rfl rfl ⟨rfl, (ov_1 hp).symm⟩
theorem c_X6_init (g : xG) (A : xA) (p : Nat) (dv gr a b c : Int32) (hp : A.1 p = some (.inr (5, [.int a, .int b, .int c]))) : xC g iX6_init 1 [.ref p, .int dv, .int gr] A (xRet none (xup A p (.inr (5, [.int dv, .int gr, .int c])))) := by
  show xW g _ _ 0 [some (.ref p), some (.int dv), some (.int gr)] [] _ _
  refine xW.at1 hp ?_
  have hD : ovD [p] := ovD_1
  refine x_aload_n dX6_init_0 rfl ?_
  refine x_objInit q1335 q204 q205 dX6_init_1 (by decide) (by exact Nat.le_of_ble_eq_true rfl) ?_
  refine x_aload_n dX6_init_4 rfl ?_
  refine x_iload_n dX6_init_5 rfl ?_
  refine v_put hD (i := 0) rfl fpX6_9_5 dX6_init_6 ⟨rfl, rfl⟩ (by exact Nat.le_of_ble_eq_true rfl) ?_
  refine x_aload_n dX6_init_9 rfl ?_
  refine x_iload_n dX6_init_10 rfl ?_
  refine v_put hD (i := 0) rfl fpX6_15_5 dX6_init_11 ⟨rfl, rfl⟩ (by exact Nat.le_of_ble_eq_true rfl) ?_
  exact x_return dX6_init_14 rfl ⟨rfl, rfl⟩
abbrev xPg (dv gr br : Int32) : xE := .inr (5, [.int dv, .int gr, .int br])
def chD (dv br c : Int32) : Int32 := if br = 0 then clI (dv + c) else dv
theorem chD_0 {dv br c : Int32} (h : br = 0) : chD dv br c = clI (dv + c) := if_pos h
theorem chD_1 {dv br c : Int32} (h : ¬ br = 0) : chD dv br c = dv := if_neg h
theorem c_X6_change (g : xG) (A : xA) (p : Nat) (dv gr br c : Int32) (hp : A.1 p = some (xPg dv gr br)) : xC g iX6_change 2 [.ref p, .int c] A (xRet none (xup A p (xPg (chD dv br c) gr br))) := by
  show xW g _ _ 0 [some (.ref p), some (.int c)] [] _ _
  refine xW.at1 hp ?_
  have hD : ovD [p] := ovD_1
  refine x_aload_n dX6_change_0 rfl ?_
  refine v_get hD (i := 0) rfl fgX6_21_5 dX6_change_1 rfl ?_
  refine x_if_ne 29 dX6_change_4 (by decide) (fun c4 => ?_) (fun c4 => ?_)
  · exact x_return dX6_change_29 rfl ⟨rfl, by rw [chD_1 c4]; rfl⟩
  · refine x_aload_n dX6_change_7 rfl ?_
    refine x_sipush (v := (-999)) dX6_change_8 (by decide) ?_
    refine x_sipush (v := 999) dX6_change_11 (by decide) ?_
    refine x_aload_n dX6_change_14 rfl ?_
    refine v_get hD (i := 0) rfl fgX6_9_5 dX6_change_15 rfl ?_
    refine x_iload_n dX6_change_18 rfl ?_
    refine x_iadd dX6_change_19 ?_
    refine x_csV csX6_25 dX6_change_20 (c_J18_min _ _ _ _) rfl ?_
    refine x_csV csX6_31 dX6_change_23 (c_J18_max _ _ _ _) rfl ?_
    refine x_top (mxmn _) ?_
    refine v_put hD (i := 0) rfl fpX6_9_5 dX6_change_26 ⟨rfl, rfl⟩ (by exact Nat.le_of_ble_eq_true rfl) ?_
    exact x_return dX6_change_29 rfl ⟨rfl, by rw [chD_0 c4]; rfl⟩
theorem c_X6_hold (g : xG) (A : xA) (p : Nat) (dv gr br : Int32) (hp : A.1 p = some (xPg dv gr br)) : xC g iX6_hold 4 [.ref p] A (xRet none (xup A p (xPg (chD dv br (mnI 0 (gr - 5))) gr br))) := by
  show xW g _ _ 0 [some (.ref p)] [] _ _
  refine xW.at1 hp ?_
  have hD : ovD [p] := ovD_1
  refine x_aload_n dX6_hold_0 rfl ?_
  refine x_iconst (v := 0) dX6_hold_1 rfl ?_
  refine x_aload_n dX6_hold_2 rfl ?_
  refine v_get hD (i := 0) rfl fgX6_15_5 dX6_hold_3 rfl ?_
  refine x_iconst (v := 5) dX6_hold_6 rfl ?_
  refine x_isub dX6_hold_7 ?_
  refine x_csV csX6_25 dX6_hold_8 (c_J18_min _ _ _ _) rfl ?_
  refine x_cvN (q := (RX6, TX6, 3)) cvX6_34_X6 dX6_hold_11 (Or.inl (ov_at hD (i := 0) rfl)) rfl (c_X6_change _ _ _ _ _ _ _ (ov_at hD (i := 0) rfl)) rfl ?_
  refine xW.eqA (ov_up hD (i := 0) rfl) ?_
  exact x_return dX6_hold_14 rfl ⟨rfl, rfl⟩
theorem c_X6_turn (g : xG) (A : xA) (p : Nat) (dv gr c : Int32) (hp : A.1 p = some (xPg dv gr 0)) : xC g iX6_turn 4 [.ref p, .int c] A (xRet (some (.int (flI (150 < c)))) (xup A p (xPg (if 150 < c then dv else clI (clI (dv + c) + mnI 0 (gr - 3))) (mxI 0 (gr - 1)) (flI (150 < c))))) := by
  show xW g _ _ 0 [some (.ref p), some (.int c), none] [] _ _
  refine xW.at1 hp ?_
  have hD : ovD [p] := ovD_1
  refine x_iload_n dX6_turn_0 rfl ?_
  refine x_sipush (v := 150) dX6_turn_1 (by decide) ?_
  refine x_icmp_le 11 dX6_turn_4 (by decide) (fun c4 => ?_) (fun c4 => ?_)
  · refine x_iconst (v := 0) dX6_turn_11 rfl ?_
    refine x_istore_n dX6_turn_12 (by decide) rfl ?_
    refine x_iload_n dX6_turn_13 rfl ?_
    refine x_if_eqT (tgt := 25) dX6_turn_14 (by decide) (by decide) ?_
    refine x_aload_n dX6_turn_25 rfl ?_
    refine x_iload_n dX6_turn_26 rfl ?_
    refine x_cvN (q := (RX6, TX6, 3)) cvX6_34_X6 dX6_turn_27 (Or.inl (ov_at hD (i := 0) rfl)) rfl (c_X6_change _ _ _ _ _ _ _ (ov_at hD (i := 0) rfl)) rfl ?_
    refine xW.eqA (ov_up hD (i := 0) rfl) ?_
    refine x_aload_n dX6_turn_30 rfl ?_
    refine x_iconst (v := 0) dX6_turn_31 rfl ?_
    refine x_aload_n dX6_turn_32 rfl ?_
    refine v_get hD (i := 0) rfl fgX6_15_5 dX6_turn_33 rfl ?_
    refine x_iconst (v := 3) dX6_turn_36 rfl ?_
    refine x_isub dX6_turn_37 ?_
    refine x_csV csX6_25 dX6_turn_38 (c_J18_min _ _ _ _) rfl ?_
    refine x_cvN (q := (RX6, TX6, 3)) cvX6_34_X6 dX6_turn_41 (Or.inl (ov_at hD (i := 0) rfl)) rfl (c_X6_change _ _ _ _ _ _ _ (ov_at hD (i := 0) rfl)) rfl ?_
    refine xW.eqA (ov_up hD (i := 0) rfl) ?_
    refine x_aload_n dX6_turn_44 rfl ?_
    refine x_iconst (v := 0) dX6_turn_45 rfl ?_
    refine x_aload_n dX6_turn_46 rfl ?_
    refine v_get hD (i := 0) rfl fgX6_15_5 dX6_turn_47 rfl ?_
    refine x_iconst (v := 1) dX6_turn_50 rfl ?_
    refine x_isub dX6_turn_51 ?_
    refine x_csV csX6_31 dX6_turn_52 (c_J18_max _ _ _ _) rfl ?_
    refine v_put hD (i := 0) rfl fpX6_15_5 dX6_turn_55 ⟨rfl, rfl⟩ (by exact Nat.le_of_ble_eq_true rfl) ?_
    refine x_iload_n dX6_turn_58 rfl ?_
    exact x_ireturn dX6_turn_59 rfl rfl ⟨by rw [flI_no (fun h => nle_lt h c4)], by rw [flI_no (fun h => nle_lt h c4), if_neg (fun h => nle_lt h c4), chD_0 rfl, chD_0 rfl]; rfl⟩
  · refine x_iconst (v := 1) dX6_turn_7 rfl ?_
    refine x_goto (tgt := 12) dX6_turn_8 (by decide) ?_
    refine x_istore_n dX6_turn_12 (by decide) rfl ?_
    refine x_iload_n dX6_turn_13 rfl ?_
    refine x_if_eqF dX6_turn_14 25 (by decide) (by decide) ?_
    refine x_aload_n dX6_turn_17 rfl ?_
    refine x_iconst (v := 1) dX6_turn_18 rfl ?_
    refine v_put hD (i := 0) rfl fpX6_21_5 dX6_turn_19 ⟨rfl, rfl⟩ (by exact Nat.le_of_ble_eq_true rfl) ?_
    refine x_goto (tgt := 44) dX6_turn_22 (by decide) ?_
    refine x_aload_n dX6_turn_44 rfl ?_
    refine x_iconst (v := 0) dX6_turn_45 rfl ?_
    refine x_aload_n dX6_turn_46 rfl ?_
    refine v_get hD (i := 0) rfl fgX6_15_5 dX6_turn_47 rfl ?_
    refine x_iconst (v := 1) dX6_turn_50 rfl ?_
    refine x_isub dX6_turn_51 ?_
    refine x_csV csX6_31 dX6_turn_52 (c_J18_max _ _ _ _) rfl ?_
    refine v_put hD (i := 0) rfl fpX6_15_5 dX6_turn_55 ⟨rfl, rfl⟩ (by exact Nat.le_of_ble_eq_true rfl) ?_
    refine x_iload_n dX6_turn_58 rfl ?_
    exact x_ireturn dX6_turn_59 rfl rfl ⟨by rw [flI_y (lt_nle c4)], by rw [flI_y (lt_nle c4), if_pos (lt_nle c4)]; rfl⟩

set_option maxRecDepth 100000
/-! MAPS and sets made; fiddlers -/
abbrev cJ24_isNaN : ByteArray := prog_27_method_6_code
def yJ24_isNaN : MethodName := ⟨RJ24, "isNaN", "(F)Z"⟩
def dkwJ24_isNaN_0 : List UInt8 := [34, 34, 149, 153, 0, 7, 4, 167, 0, 4, 3, 172]
abbrev dktJ24_isNaN_0 : List UInt8 := dkwJ24_isNaN_0 ++ []
theorem dksJ24_isNaN_0 : cJ24_isNaN.data.toList.drop 0 = dktJ24_isNaN_0 := by decide +kernel
theorem dJ24_isNaN_0 : decode cJ24_isNaN 0 = .ok (.fload_n 0, 1) := dk_34 (dk_at dksJ24_isNaN_0 0 rfl rfl)
theorem dJ24_isNaN_1 : decode cJ24_isNaN 1 = .ok (.fload_n 0, 1) := dk_34 (dk_at dksJ24_isNaN_0 1 rfl rfl)
theorem dJ24_isNaN_2 : decode cJ24_isNaN 2 = .ok (.fcmp .l, 1) := dk_149 (dk_at dksJ24_isNaN_0 2 rfl rfl)
theorem dJ24_isNaN_3 : decode cJ24_isNaN 3 = .ok (.ifCond .eq 7, 3) := dk_153 0 7 (dk_at dksJ24_isNaN_0 3 rfl rfl)
theorem dJ24_isNaN_6 : decode cJ24_isNaN 6 = .ok (.iconst 1, 1) := dk_4 (dk_at dksJ24_isNaN_0 6 rfl rfl)
theorem dJ24_isNaN_7 : decode cJ24_isNaN 7 = .ok (.goto 4, 3) := dk_167 0 4 (dk_at dksJ24_isNaN_0 7 rfl rfl)
theorem dJ24_isNaN_10 : decode cJ24_isNaN 10 = .ok (.iconst 0, 1) := dk_3 (dk_at dksJ24_isNaN_0 10 rfl rfl)
theorem dJ24_isNaN_11 : decode cJ24_isNaN 11 = .ok (.ireturn, 1) := dk_172 (dk_at dksJ24_isNaN_0 11 rfl rfl)
abbrev iJ24_isNaN : xM := (yJ24_isNaN, cJ24_isNaN, 1, (some .boolean), [])
theorem mJ24_isNaN : xOkM iJ24_isNaN := ⟨by decide +kernel, by decide, q652, q158⟩
theorem csJ4_70 : xCS "java/util/HashMap" 70 iJ24_isNaN 1 := ⟨mJ24_isNaN, by unfold xNp; decide +kernel, ⟨by decide, by decide⟩, q651, Or.inl q650⟩
theorem f_nan : Op.cmpValue (FP.fcmp LF LF) .l = 0 := by decide +kernel
theorem f_pos : Op.cmpValue (FP.fcmp LF FP.fconst0) .g = 1 := by decide +kernel
abbrev xM0 (lf : UInt32) (th : Int32) : xE := .inr (12, [.null, .null, .int 0, .int 0, .int th, .float lf, .null, .null, .null, .null, .int 0, .int 0])
theorem c_J24_isNaN (g : xG) (A : xA)  : xC g iJ24_isNaN 0 [.float LF] A (xRet (some (.int 0)) A) := by
  show xW g _ _ 0 [some (.float LF)] [] _ _
  refine x_fload_n dJ24_isNaN_0 rfl ?_
  refine x_fload_n dJ24_isNaN_1 rfl ?_
  refine x_fcmp dJ24_isNaN_2 ?_
  refine x_top (y := 0) f_nan ?_
  refine x_if_eqT (tgt := 10) dJ24_isNaN_3 (by decide) (by decide) ?_
  refine x_iconst (v := 0) dJ24_isNaN_10 rfl ?_
  exact x_ireturn dJ24_isNaN_11 rfl rfl ⟨rfl, rfl⟩
theorem c_J23_nlz (g : xG) (A : xA)  : xC g iJ23_numberOfLeadingZeros 0 [.int 15] A (xRet (some (.int 28)) A) := by
  show xW g _ _ 0 [some (.int 15), none] [] _ _
  refine x_iload_n dJ23_numberOfLeadingZeros_0 rfl ?_
  refine x_if_gtT (tgt := 15) dJ23_numberOfLeadingZeros_1 (by decide) (by decide) ?_
  refine x_bipush (v := 31) dJ23_numberOfLeadingZeros_15 (by decide) ?_
  refine x_istore_n dJ23_numberOfLeadingZeros_17 (by decide) rfl ?_
  refine x_iload_n dJ23_numberOfLeadingZeros_18 rfl ?_
  refine x_ldcw (v := 65536) q701 dJ23_numberOfLeadingZeros_19 ?_
  refine x_icmp_ltT (tgt := 33) dJ23_numberOfLeadingZeros_22 (by decide) (by decide) ?_
  refine x_iload_n dJ23_numberOfLeadingZeros_33 rfl ?_
  refine x_sipush (v := 256) dJ23_numberOfLeadingZeros_34 (by decide) ?_
  refine x_icmp_ltT (tgt := 48) dJ23_numberOfLeadingZeros_37 (by decide) (by decide) ?_
  refine x_iload_n dJ23_numberOfLeadingZeros_48 rfl ?_
  refine x_bipush (v := 16) dJ23_numberOfLeadingZeros_49 (by decide) ?_
  refine x_icmp_ltT (tgt := 61) dJ23_numberOfLeadingZeros_51 (by decide) (by decide) ?_
  refine x_iload_n dJ23_numberOfLeadingZeros_61 rfl ?_
  refine x_iconst (v := 4) dJ23_numberOfLeadingZeros_62 rfl ?_
  refine x_icmp_ltF dJ23_numberOfLeadingZeros_63 73 (by decide) (by decide) ?_
  refine x_iinc (v := 29) dJ23_numberOfLeadingZeros_66 rfl (by decide) (by decide) rfl ?_
  refine x_iload_n dJ23_numberOfLeadingZeros_69 rfl ?_
  refine x_iconst (v := 2) dJ23_numberOfLeadingZeros_70 rfl ?_
  refine x_iushr dJ23_numberOfLeadingZeros_71 ?_
  refine x_top (y := 3) (by decide) ?_
  refine x_istore_n dJ23_numberOfLeadingZeros_72 (by decide) rfl ?_
  refine x_iload_n dJ23_numberOfLeadingZeros_73 rfl ?_
  refine x_iload_n dJ23_numberOfLeadingZeros_74 rfl ?_
  refine x_iconst (v := 1) dJ23_numberOfLeadingZeros_75 rfl ?_
  refine x_iushr dJ23_numberOfLeadingZeros_76 ?_
  refine x_top (y := 1) (by decide) ?_
  refine x_isub dJ23_numberOfLeadingZeros_77 ?_
  refine x_top (y := 28) (by decide) ?_
  exact x_ireturn dJ23_numberOfLeadingZeros_78 rfl rfl ⟨rfl, rfl⟩
theorem c_J4_tsf (g : xG) (A : xA)  : xC g iJ4_tableSizeFor 1 [.int 16] A (xRet (some (.int 16)) A) := by
  show xW g _ _ 0 [some (.int 16), none] [] _ _
  refine x_iconst (v := (-1)) dJ4_tableSizeFor_0 rfl ?_
  refine x_iload_n dJ4_tableSizeFor_1 rfl ?_
  refine x_iconst (v := 1) dJ4_tableSizeFor_2 rfl ?_
  refine x_isub dJ4_tableSizeFor_3 ?_
  refine x_top (y := 15) (by decide) ?_
  refine x_csV csJ4_34 dJ4_tableSizeFor_4 (c_J23_nlz _ _) rfl ?_
  refine x_iushr dJ4_tableSizeFor_7 ?_
  refine x_top (y := 15) (by decide) ?_
  refine x_istore_n dJ4_tableSizeFor_8 (by decide) rfl ?_
  refine x_iload_n dJ4_tableSizeFor_9 rfl ?_
  refine x_if_geT (tgt := 17) dJ4_tableSizeFor_10 (by decide) (by decide) ?_
  refine x_iload_n dJ4_tableSizeFor_17 rfl ?_
  refine x_ldc (v := 1073741824) q649 dJ4_tableSizeFor_18 ?_
  refine x_icmp_ltT (tgt := 28) dJ4_tableSizeFor_20 (by decide) (by decide) ?_
  refine x_iload_n dJ4_tableSizeFor_28 rfl ?_
  refine x_iconst (v := 1) dJ4_tableSizeFor_29 rfl ?_
  refine x_iadd dJ4_tableSizeFor_30 ?_
  refine x_top (y := 16) (by decide) ?_
  exact x_ireturn dJ4_tableSizeFor_31 rfl rfl ⟨rfl, rfl⟩
theorem c_J4_init (g : xG) (A : xA) (m : Nat) (hp : A.1 m = some (xM0 0 0)) : xC g iJ4_init 2 [.ref m] A (xRet none (xup A m (xM0 LF 0))) := by
  show xW g _ _ 0 [some (.ref m)] [] _ _
  refine xW.at1 hp ?_
  have hD : ovD [m] := ovD_1
  refine x_aload_n dJ4_init_0 rfl ?_
  refine x_ciN ciJ4_43 dJ4_init_1 (c_J3_init _ _ _) rfl ?_
  refine x_aload_n dJ4_init_4 rfl ?_
  refine x_ldcf q259 dJ4_init_5 ?_
  refine v_putF hD (i := 0) rfl fFJ4_81_12 rfl dJ4_init_7 ⟨rfl, rfl⟩ (by exact Nat.le_of_ble_eq_true rfl) ?_
  exact x_return dJ4_init_10 rfl ⟨rfl, rfl⟩
theorem c_J5_init (g : xG) (A : xA) (m : Nat) (hp : A.1 m = some (xM0 0 0)) : xC g iJ5_init 3 [.ref m] A (xRet none (xup A m (xLg .null none 0 0 (nI 0) none none none none))) := by
  show xW g _ _ 0 [some (.ref m)] [] _ _
  refine xW.at1 hp ?_
  have hD : ovD [m] := ovD_1
  refine x_aload_n dJ5_init_0 rfl ?_
  refine x_ciN ciJ5_87 dJ5_init_1 (c_J4_init _ _ m (by exact ov_at hD (i := 0) rfl)) rfl ?_
  refine xW.eqA (ov_up hD (i := 0) rfl) ?_
  refine x_aload_n dJ5_init_4 rfl ?_
  refine x_iconst (v := 0) dJ5_init_5 rfl ?_
  refine v_put hD (i := 0) rfl fpJ5_1_12 dJ5_init_6 ⟨rfl, rfl⟩ (by exact Nat.le_of_ble_eq_true rfl) ?_
  refine x_aload_n dJ5_init_9 rfl ?_
  refine x_iconst (v := 0) dJ5_init_10 rfl ?_
  refine v_putF hD (i := 0) rfl fFJ5_64_12 rfl dJ5_init_11 ⟨rfl, rfl⟩ (by exact Nat.le_of_ble_eq_true rfl) ?_
  exact x_return dJ5_init_14 rfl ⟨rfl, rfl⟩
theorem c_J4_init_2 (g : xG) (A : xA) (m : Nat) (hp : A.1 m = some (xM0 0 0)) : xC g iJ4_init_2 2 [.ref m, .int 16, .float LF] A (xRet none (xup A m (xM0 LF 16))) := by
  show xW g _ _ 0 [some (.ref m), some (.int 16), some (.float LF)] [] _ _
  refine xW.at1 hp ?_
  have hD : ovD [m] := ovD_1
  refine x_aload_n dJ4_init_2_0 rfl ?_
  refine x_ciN ciJ4_43 dJ4_init_2_1 (c_J3_init _ _ _) rfl ?_
  refine x_iload_n dJ4_init_2_4 rfl ?_
  refine x_if_geT (tgt := 35) dJ4_init_2_5 (by decide) (by decide) ?_
  refine x_iload_n dJ4_init_2_35 rfl ?_
  refine x_ldc (v := 1073741824) q649 dJ4_init_2_36 ?_
  refine x_icmp_leT (tgt := 44) dJ4_init_2_38 (by decide) (by decide) ?_
  refine x_fload_n dJ4_init_2_44 rfl ?_
  refine x_fconst0 dJ4_init_2_45 ?_
  refine x_fcmp dJ4_init_2_46 ?_
  refine x_top (y := 1) f_pos ?_
  refine x_if_leF dJ4_init_2_47 57 (by decide) (by decide) ?_
  refine x_fload_n dJ4_init_2_50 rfl ?_
  refine x_csV csJ4_70 dJ4_init_2_51 (c_J24_isNaN _ _) rfl ?_
  refine x_if_eqT (tgt := 84) dJ4_init_2_54 (by decide) (by decide) ?_
  refine x_aload_n dJ4_init_2_84 rfl ?_
  refine x_fload_n dJ4_init_2_85 rfl ?_
  refine v_putF hD (i := 0) rfl fFJ4_81_12 rfl dJ4_init_2_86 ⟨rfl, rfl⟩ (by exact Nat.le_of_ble_eq_true rfl) ?_
  refine x_aload_n dJ4_init_2_89 rfl ?_
  refine x_iload_n dJ4_init_2_90 rfl ?_
  refine x_csV csJ4_85 dJ4_init_2_91 (c_J4_tsf _ _) rfl ?_
  refine v_put hD (i := 0) rfl fpJ4_88_12 dJ4_init_2_94 ⟨rfl, rfl⟩ (by exact Nat.le_of_ble_eq_true rfl) ?_
  exact x_return dJ4_init_2_97 rfl ⟨rfl, rfl⟩
theorem c_J5_init_2 (g : xG) (A : xA) (m : Nat) (hp : A.1 m = some (xM0 0 0)) : xC g iJ5_init_2 3 [.ref m, .int 16, .float LF] A (xRet none (xup A m (xLg .null none 0 0 (nI 16) none none none none))) := by
  show xW g _ _ 0 [some (.ref m), some (.int 16), some (.float LF)] [] _ _
  refine xW.at1 hp ?_
  have hD : ovD [m] := ovD_1
  refine x_aload_n dJ5_init_2_0 rfl ?_
  refine x_iload_n dJ5_init_2_1 rfl ?_
  refine x_fload_n dJ5_init_2_2 rfl ?_
  refine x_ciN ciJ5_81 dJ5_init_2_3 (c_J4_init_2 _ _ m (by exact ov_at hD (i := 0) rfl)) rfl ?_
  refine xW.eqA (ov_up hD (i := 0) rfl) ?_
  refine x_aload_n dJ5_init_2_6 rfl ?_
  refine x_iconst (v := 0) dJ5_init_2_7 rfl ?_
  refine v_put hD (i := 0) rfl fpJ5_1_12 dJ5_init_2_8 ⟨rfl, rfl⟩ (by exact Nat.le_of_ble_eq_true rfl) ?_
  refine x_aload_n dJ5_init_2_11 rfl ?_
  refine x_iconst (v := 0) dJ5_init_2_12 rfl ?_
  refine v_putF hD (i := 0) rfl fFJ5_64_12 rfl dJ5_init_2_13 ⟨rfl, rfl⟩ (by exact Nat.le_of_ble_eq_true rfl) ?_
  exact x_return dJ5_init_2_16 rfl ⟨rfl, rfl⟩
theorem MP_new {Fp : Nat → Prop} {A : xA} {m : Nat} {N H K V : Nat → Nat} {th : Nat} (h : A.1 m = some (xLg .null none 0 0 (nI th) none none none none)) (hth : th = 0 ∨ th = 16) (hF : Fp m) (hlt : m < A.2.1) : MP Fp A m 0 N H K V none none none := ⟨hF, hlt, Or.inl ⟨rfl, 0, th, hth, h⟩⟩
theorem c_J7_init (g : xG) (A : xA) (q : Nat) (hp : A.1 q = some (.inr (13, [.null]))) (hlt : q < A.2.1) : xC g iJ7_init 4 [.ref q, .int 16, .float LF, .int 1] A (xRet none (ov (xbp A 12) [(A.2.1, xLg .null none 0 0 (nI 16) none none none none), (q, .inr (13, [.ref A.2.1]))])) := by
  show xW g _ _ 0 [some (.ref q), some (.int 16), some (.float LF), some (.int 1)] [] _ _
  refine xW.at1 hp ?_
  have hD : ovD [q] := ovD_1
  have hL : ovL A.2.1 [q] := fun b hb => by simp at hb; omega
  refine x_aload_n dJ7_init_0 rfl ?_
  refine x_ciN ciJ7_1 dJ7_init_1 (c_J6_init _ _ _) rfl ?_
  refine x_aload_n dJ7_init_4 rfl ?_
  refine v_new nwJ7_42 dJ7_init_5 ?_
  have hD1_1 := ovD_cons hL hD
  have hL1_1 := ovL_cons hL
  refine x_dup dJ7_init_8 rfl ?_
  refine x_iload_n dJ7_init_9 rfl ?_
  refine x_fload_n dJ7_init_10 rfl ?_
  refine x_ciN ciJ7_44 dJ7_init_11 (c_J5_init_2 _ _ _ (by exact ov_at hD1_1 (i := 0) rfl)) rfl ?_
  refine xW.eqA (ov_up hD1_1 (i := 0) rfl) ?_
  refine v_put hD1_1 (i := 1) rfl fpJ7_10_13 dJ7_init_14 ⟨rfl, rfl⟩ (by exact Nat.le_of_ble_eq_true rfl) ?_
  exact x_return dJ7_init_17 rfl ⟨rfl, rfl⟩
theorem ov_g3 {A : xA} {q n : Nat} {x y a : xE} : ov (xbp (ov A [(q, x)]) n) [((ov A [(q, x)]).2.1, a), (q, y)] = ov (xbp A n) [(A.2.1, a), (q, y)] := ov_g1
theorem c_J8_init (g : xG) (A : xA) (q : Nat) (hp : A.1 q = some (.inr (13, [.null]))) (hlt : q < A.2.1) : xC g iJ8_init 5 [.ref q] A (xRet none (ov (xbp A 12) [(A.2.1, xLg .null none 0 0 (nI 16) none none none none), (q, .inr (13, [.ref A.2.1]))])) := by
  show xW g _ _ 0 [some (.ref q)] [] _ _
  refine xW.at1 hp ?_
  have hD : ovD [q] := ovD_1
  have hL : ovL A.2.1 [q] := fun b hb => by simp at hb; omega
  refine x_aload_n dJ8_init_0 rfl ?_
  refine x_bipush (v := 16) dJ8_init_1 (by decide) ?_
  refine x_ldcf q315 dJ8_init_3 ?_
  refine x_iconst (v := 1) dJ8_init_5 rfl ?_
  refine x_ciN ciJ8_1 dJ8_init_6 (c_J7_init _ _ q (by exact ov_at hD (i := 0) rfl) (by rw [ov_2]; exact hlt)) rfl ?_
  refine xW.eqA ov_g3 ?_
  exact x_return dJ8_init_9 rfl ⟨rfl, rfl⟩
abbrev xFd (num pat : Int32) (nm tu : Nat) (rf ch ob : Int32) : xE := .inr (3, [.int num, .int pat, .ref nm, .ref tu, .int rf, .int ch, .int ob])
theorem xCpW_X4 : xCpW "FiddleRow$Fiddler" 38 := ⟨q2403, q454, q453, q153⟩
abbrev xI4 (f : Nat → Int32) : xE := .inl (0, 4, .inl f)
theorem c_X4_init (g : xG) (A : xA) (p nm : Nat) (num pat : Int32) (hp : A.1 p = some (.inr (3, [.int 0, .int 0, .null, .null, .int 0, .int 0, .int 0]))) (hlt : p < A.2.1) : xC g iX4_init 1 [.ref p, .int num, .ref nm, .int pat] A (xRet none (ov (xbp A 4) [(A.2.1, xI4 fun _ => 0), (p, xFd num pat nm A.2.1 (-1) 0 0)])) := by
  show xW g _ _ 0 [some (.ref p), some (.int num), some (.ref nm), some (.int pat)] [] _ _
  refine xW.at1 hp ?_
  have hD : ovD [p] := ovD_1
  have hL : ovL A.2.1 [p] := fun b hb => by simp at hb; omega
  refine x_aload_n dX4_init_0 rfl ?_
  refine x_objInit q1248 q204 q205 dX4_init_1 (by decide) (by exact Nat.le_of_ble_eq_true rfl) ?_
  refine x_aload_n dX4_init_4 rfl ?_
  refine x_iconst (v := 4) dX4_init_5 rfl ?_
  refine v_newa (Or.inl ⟨rfl, rfl, rfl⟩) q246 dX4_init_6 (by decide) (N' := 4) (by decide) (by decide) ?_
  have hD1_1 := ovD_cons hL hD
  have hL1_1 := ovL_cons hL
  refine v_putF hD1_1 (i := 1) rfl fFX4_9_3 rfl dX4_init_8 ⟨rfl, rfl⟩ (by exact Nat.le_of_ble_eq_true rfl) ?_
  refine x_aload_n dX4_init_11 rfl ?_
  refine x_iconst (v := (-1)) dX4_init_12 rfl ?_
  refine v_put hD1_1 (i := 1) rfl fpX4_15_3 dX4_init_13 ⟨rfl, rfl⟩ (by exact Nat.le_of_ble_eq_true rfl) ?_
  refine x_aload_n dX4_init_16 rfl ?_
  refine x_iload_n dX4_init_17 rfl ?_
  refine v_putF hD1_1 (i := 1) rfl fFX4_19_3 rfl dX4_init_18 ⟨rfl, rfl⟩ (by exact Nat.le_of_ble_eq_true rfl) ?_
  refine x_aload_n dX4_init_21 rfl ?_
  refine x_aload_n dX4_init_22 rfl ?_
  refine v_putF hD1_1 (i := 1) rfl fFX4_22_3 rfl dX4_init_23 ⟨rfl, rfl⟩ (by exact Nat.le_of_ble_eq_true rfl) ?_
  refine x_aload_n dX4_init_26 rfl ?_
  refine x_iload_n dX4_init_27 rfl ?_
  refine v_putF hD1_1 (i := 1) rfl fFX4_26_3 rfl dX4_init_28 ⟨rfl, rfl⟩ (by exact Nat.le_of_ble_eq_true rfl) ?_
  exact x_return dX4_init_31 rfl ⟨rfl, rfl⟩
theorem c_X4_init_2 (g : xG) (A : xA) (p q nm tu : Nat) (num pat rf ch ob : Int32) (tf : Nat → Int32) (hp : A.1 p = some (.inr (3, [.int 0, .int 0, .null, .null, .int 0, .int 0, .int 0]))) (hlt : p < A.2.1) (hq : A.1 q = some (xFd num pat nm tu rf ch ob)) (ht : A.1 tu = some (xI4 tf)) : xC g iX4_init_2 2 [.ref p, .ref q] A (xRet none (ov (xbp A 4) [(A.2.1, xI4 (va_cpy tf (fun _ => 0) 0 0 4)), (p, xFd num pat nm A.2.1 rf ch ob)])) := by
  refine xW.ok (fun hok => ?_)
  have hqp : q ≠ p := xdf hq hp (fun e => by injection e with e; injection e with e1 e2; injection e2 with e3 e4; injection e4 with e5 e6; injection e6 with e7 e8; cases e7)
  have htp : tu ≠ p := xdf ht hp xne_a'
  have hqn := (hok.2 _ _ hq).2
  have htn := (hok.2 _ _ ht).2
  show xW g _ _ 0 [some (.ref p), some (.ref q)] [] _ _
  refine xW.at1 hp ?_
  have hD : ovD [p] := ovD_1
  have hL : ovL A.2.1 [p] := fun b hb => by simp at hb; omega
  have k1 : ∀ (e1 : xE), xAt g (ov A [(p, e1)]) q (xFd num pat nm tu rf ch ob) := fun e1 => Or.inl ((xup_ne hqp).trans hq)
  have k2 : ∀ (e1 e2 : xE), xAt g (ov (xbp A 4) [(A.2.1, e2), (p, e1)]) q (xFd num pat nm tu rf ch ob) := fun e1 e2 => Or.inl ((xup_ne (Nat.ne_of_lt hqn)).trans ((xup_ne hqp).trans hq))
  have k3 : ∀ (e1 e2 : xE), xAt g (ov (xbp A 4) [(A.2.1, e2), (p, e1)]) tu (xI4 tf) := fun e1 e2 => Or.inl ((xup_ne (Nat.ne_of_lt htn)).trans ((xup_ne htp).trans ht))
  refine x_aload_n dX4_init_2_0 rfl ?_
  refine x_aload_n dX4_init_2_1 rfl ?_
  refine x_get fgX4_19_3 dX4_init_2_2 (k1 _) rfl ?_
  refine x_aload_n dX4_init_2_5 rfl ?_
  refine x_get fgX4_22_3 dX4_init_2_6 (k1 _) rfl ?_
  refine x_aload_n dX4_init_2_9 rfl ?_
  refine x_get fgX4_26_3 dX4_init_2_10 (k1 _) rfl ?_
  refine x_ciN ciX4_29 dX4_init_2_13 (c_X4_init _ _ p nm num pat (by exact ov_at hD (i := 0) rfl) (by rw [ov_2]; exact hlt)) rfl ?_
  refine xW.eqA ov_g3 ?_
  have hD1_1 := ovD_cons hL hD
  have hL1_1 := ovL_cons hL
  refine x_aload_n dX4_init_2_16 rfl ?_
  refine x_aload_n dX4_init_2_17 rfl ?_
  refine x_get fgX4_15_3 dX4_init_2_18 (k2 _ _) rfl ?_
  refine v_put hD1_1 (i := 1) rfl fpX4_15_3 dX4_init_2_21 ⟨rfl, rfl⟩ (by exact Nat.le_of_ble_eq_true rfl) ?_
  refine x_aload_n dX4_init_2_24 rfl ?_
  refine x_aload_n dX4_init_2_25 rfl ?_
  refine x_get fgX4_32_3 dX4_init_2_26 (k2 _ _) rfl ?_
  refine v_put hD1_1 (i := 1) rfl fpX4_32_3 dX4_init_2_29 ⟨rfl, rfl⟩ (by exact Nat.le_of_ble_eq_true rfl) ?_
  refine x_aload_n dX4_init_2_32 rfl ?_
  refine x_aload_n dX4_init_2_33 rfl ?_
  refine x_get fgX4_35_3 dX4_init_2_34 (k2 _ _) rfl ?_
  refine v_put hD1_1 (i := 1) rfl fpX4_35_3 dX4_init_2_37 ⟨rfl, rfl⟩ (by exact Nat.le_of_ble_eq_true rfl) ?_
  refine x_aload_n dX4_init_2_40 rfl ?_
  refine x_get fgX4_9_3 dX4_init_2_41 (k2 _ _) rfl ?_
  refine x_iconst (v := 0) dX4_init_2_44 rfl ?_
  refine x_aload_n dX4_init_2_45 rfl ?_
  refine x_get fgX4_9_3 dX4_init_2_46 (Or.inl (ov_at hD1_1 (i := 1) rfl)) rfl ?_
  refine x_iconst (v := 0) dX4_init_2_49 rfl ?_
  refine x_iconst (v := 4) dX4_init_2_50 rfl ?_
  refine x_copyi (t := 0) xCpW_X4 rfl rfl (k3 _ _) (ov_at hD1_1 (i := 0) rfl) (by decide) (by decide) (by decide) (by decide) (by decide) (fun _ _ => rfl) (by decide) (by exact Nat.le_of_ble_eq_true rfl) dX4_init_2_51 ?_
  refine xW.eqA (ov_up hD1_1 (i := 0) rfl) ?_
  exact x_return dX4_init_2_54 rfl ⟨rfl, rfl⟩
theorem c_X4_forget (g : xG) (A : xA) (p nm tu : Nat) (num pat rf ch ob : Int32) (hp : A.1 p = some (xFd num pat nm tu rf ch ob)) : xC g iX4_forget 0 [.ref p] A (xRet none (xup A p (xFd num pat nm tu (-1) 0 1))) := by
  show xW g _ _ 0 [some (.ref p)] [] _ _
  refine xW.at1 hp ?_
  have hD : ovD [p] := ovD_1
  refine x_aload_n dX4_forget_0 rfl ?_
  refine x_iconst (v := (-1)) dX4_forget_1 rfl ?_
  refine v_put hD (i := 0) rfl fpX4_15_3 dX4_forget_2 ⟨rfl, rfl⟩ (by exact Nat.le_of_ble_eq_true rfl) ?_
  refine x_aload_n dX4_forget_5 rfl ?_
  refine x_iconst (v := 0) dX4_forget_6 rfl ?_
  refine v_put hD (i := 0) rfl fpX4_32_3 dX4_forget_7 ⟨rfl, rfl⟩ (by exact Nat.le_of_ble_eq_true rfl) ?_
  refine x_aload_n dX4_forget_10 rfl ?_
  refine x_iconst (v := 1) dX4_forget_11 rfl ?_
  refine v_put hD (i := 0) rfl fpX4_35_3 dX4_forget_12 ⟨rfl, rfl⟩ (by exact Nat.le_of_ble_eq_true rfl) ?_
  exact x_return dX4_forget_15 rfl ⟨rfl, rfl⟩
theorem c_X4_isInTune (g : xG) (A : xA) (p nm tu : Nat) (num pat rf ch ob : Int32) (hp : A.1 p = some (xFd num pat nm tu rf ch ob)) : xC g iX4_isInTune 0 [.ref p] A (xRet (some (.int (flI (0 < ch)))) A) := by
  show xW g _ _ 0 [some (.ref p)] [] _ _
  refine x_aload_n dX4_isInTune_0 rfl ?_
  refine x_get fgX4_32_3 dX4_isInTune_1 (Or.inl hp) rfl ?_
  refine x_if_le 11 dX4_isInTune_4 (by decide) (fun c4 => ?_) (fun c4 => ?_)
  · refine x_iconst (v := 0) dX4_isInTune_11 rfl ?_
    exact x_ireturn dX4_isInTune_12 rfl rfl ⟨by rw [flI_no (fun h => nle_lt h c4)], rfl⟩
  · refine x_iconst (v := 1) dX4_isInTune_7 rfl ?_
    refine x_goto (tgt := 12) dX4_isInTune_8 (by decide) ?_
    exact x_ireturn dX4_isInTune_12 rfl rfl ⟨by rw [flI_y (lt_nle c4)], rfl⟩

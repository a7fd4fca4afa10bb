set_option maxRecDepth 100000
abbrev cX6_init : ByteArray := prog_10_method_1_code
def yX6_init : MethodName := ⟨RX6, "<init>", "(II)V"⟩
def dkwX6_init_0 : List UInt8 := [42, 183, 0, 3, 42, 27, 181, 0, 9, 42, 28, 181, 0, 15, 177]
abbrev dktX6_init_0 : List UInt8 := dkwX6_init_0 ++ []
theorem dksX6_init_0 : cX6_init.data.toList.drop 0 = dktX6_init_0 := by decide +kernel
theorem dX6_init_0 : decode cX6_init 0 = .ok (.aload_n 0, 1) := dk_42 (dk_at dksX6_init_0 0 rfl rfl)
theorem dX6_init_1 : decode cX6_init 1 = .ok (.invokespecial 3, 3) := dk_183 0 3 (dk_at dksX6_init_0 1 rfl rfl)
theorem dX6_init_4 : decode cX6_init 4 = .ok (.aload_n 0, 1) := dk_42 (dk_at dksX6_init_0 4 rfl rfl)
theorem dX6_init_5 : decode cX6_init 5 = .ok (.iload_n 1, 1) := dk_27 (dk_at dksX6_init_0 5 rfl rfl)
theorem dX6_init_6 : decode cX6_init 6 = .ok (.putfield 9, 3) := dk_181 0 9 (dk_at dksX6_init_0 6 rfl rfl)
theorem dX6_init_9 : decode cX6_init 9 = .ok (.aload_n 0, 1) := dk_42 (dk_at dksX6_init_0 9 rfl rfl)
theorem dX6_init_10 : decode cX6_init 10 = .ok (.iload_n 2, 1) := dk_28 (dk_at dksX6_init_0 10 rfl rfl)
theorem dX6_init_11 : decode cX6_init 11 = .ok (.putfield 15, 3) := dk_181 0 15 (dk_at dksX6_init_0 11 rfl rfl)
theorem dX6_init_14 : decode cX6_init 14 = .ok (.return_, 1) := dk_177 (dk_at dksX6_init_0 14 rfl rfl)
abbrev iX6_init : xM := (yX6_init, cX6_init, 3, none, [])
theorem mX6_init : xOkM iX6_init := ⟨by decide +kernel, by decide, q1334, q167⟩
abbrev cX6_init_2 : ByteArray := prog_10_method_2_code
def yX6_init_2 : MethodName := ⟨RX6, "<init>", "(LFiddleRow$Peg;)V"⟩
def dkwX6_init_2_0 : List UInt8 := [42, 43, 180, 0, 9, 43, 180, 0, 15, 183, 0, 18, 42, 43, 180, 0, 21, 181, 0, 21, 177]
abbrev dktX6_init_2_0 : List UInt8 := dkwX6_init_2_0 ++ []
theorem dksX6_init_2_0 : cX6_init_2.data.toList.drop 0 = dktX6_init_2_0 := by decide +kernel
theorem dX6_init_2_0 : decode cX6_init_2 0 = .ok (.aload_n 0, 1) := dk_42 (dk_at dksX6_init_2_0 0 rfl rfl)
theorem dX6_init_2_1 : decode cX6_init_2 1 = .ok (.aload_n 1, 1) := dk_43 (dk_at dksX6_init_2_0 1 rfl rfl)
theorem dX6_init_2_2 : decode cX6_init_2 2 = .ok (.getfield 9, 3) := dk_180 0 9 (dk_at dksX6_init_2_0 2 rfl rfl)
theorem dX6_init_2_5 : decode cX6_init_2 5 = .ok (.aload_n 1, 1) := dk_43 (dk_at dksX6_init_2_0 5 rfl rfl)
theorem dX6_init_2_6 : decode cX6_init_2 6 = .ok (.getfield 15, 3) := dk_180 0 15 (dk_at dksX6_init_2_0 6 rfl rfl)
theorem dX6_init_2_9 : decode cX6_init_2 9 = .ok (.invokespecial 18, 3) := dk_183 0 18 (dk_at dksX6_init_2_0 9 rfl rfl)
theorem dX6_init_2_12 : decode cX6_init_2 12 = .ok (.aload_n 0, 1) := dk_42 (dk_at dksX6_init_2_0 12 rfl rfl)
theorem dX6_init_2_13 : decode cX6_init_2 13 = .ok (.aload_n 1, 1) := dk_43 (dk_at dksX6_init_2_0 13 rfl rfl)
theorem dX6_init_2_14 : decode cX6_init_2 14 = .ok (.getfield 21, 3) := dk_180 0 21 (dk_at dksX6_init_2_0 14 rfl rfl)
theorem dX6_init_2_17 : decode cX6_init_2 17 = .ok (.putfield 21, 3) := dk_181 0 21 (dk_at dksX6_init_2_0 17 rfl rfl)
theorem dX6_init_2_20 : decode cX6_init_2 20 = .ok (.return_, 1) := dk_177 (dk_at dksX6_init_2_0 20 rfl rfl)
abbrev iX6_init_2 : xM := (yX6_init_2, cX6_init_2, 2, none, [])
theorem mX6_init_2 : xOkM iX6_init_2 := ⟨by decide +kernel, by decide, q2572, q167⟩
abbrev cX6_turn : ByteArray := prog_10_method_4_code
def yX6_turn : MethodName := ⟨RX6, "turn", "(I)Z"⟩
def dkwX6_turn_2 : List UInt8 := [42, 180, 0, 15, 4, 100, 184, 0, 31, 181, 0, 15, 28, 172]
abbrev dktX6_turn_2 : List UInt8 := dkwX6_turn_2 ++ []
def dkwX6_turn_1 : List UInt8 := [167, 0, 22, 42, 27, 182, 0, 34, 42, 3, 42, 180, 0, 15, 6, 100, 184, 0, 25, 182, 0, 34, 42, 3]
abbrev dktX6_turn_1 : List UInt8 := dkwX6_turn_1 ++ dktX6_turn_2
def dkwX6_turn_0 : List UInt8 := [27, 17, 0, 150, 164, 0, 7, 4, 167, 0, 4, 3, 61, 28, 153, 0, 11, 42, 4, 181, 0, 21]
abbrev dktX6_turn_0 : List UInt8 := dkwX6_turn_0 ++ dktX6_turn_1
theorem dksX6_turn_0 : cX6_turn.data.toList.drop 0 = dktX6_turn_0 := by decide +kernel
theorem dksX6_turn_1 : cX6_turn.data.toList.drop 22 = dktX6_turn_1 := dk_seg dksX6_turn_0 22 rfl rfl
theorem dksX6_turn_2 : cX6_turn.data.toList.drop 46 = dktX6_turn_2 := dk_seg dksX6_turn_1 24 rfl rfl
theorem dX6_turn_0 : decode cX6_turn 0 = .ok (.iload_n 1, 1) := dk_27 (dk_at dksX6_turn_0 0 rfl rfl)
theorem dX6_turn_1 : decode cX6_turn 1 = .ok (.sipush 150, 3) := dk_17 0 150 (dk_at dksX6_turn_0 1 rfl rfl)
theorem dX6_turn_4 : decode cX6_turn 4 = .ok (.if_icmp .le 7, 3) := dk_164 0 7 (dk_at dksX6_turn_0 4 rfl rfl)
theorem dX6_turn_7 : decode cX6_turn 7 = .ok (.iconst 1, 1) := dk_4 (dk_at dksX6_turn_0 7 rfl rfl)
theorem dX6_turn_8 : decode cX6_turn 8 = .ok (.goto 4, 3) := dk_167 0 4 (dk_at dksX6_turn_0 8 rfl rfl)
theorem dX6_turn_11 : decode cX6_turn 11 = .ok (.iconst 0, 1) := dk_3 (dk_at dksX6_turn_0 11 rfl rfl)
theorem dX6_turn_12 : decode cX6_turn 12 = .ok (.istore_n 2, 1) := dk_61 (dk_at dksX6_turn_0 12 rfl rfl)
theorem dX6_turn_13 : decode cX6_turn 13 = .ok (.iload_n 2, 1) := dk_28 (dk_at dksX6_turn_0 13 rfl rfl)
theorem dX6_turn_14 : decode cX6_turn 14 = .ok (.ifCond .eq 11, 3) := dk_153 0 11 (dk_at dksX6_turn_0 14 rfl rfl)
theorem dX6_turn_17 : decode cX6_turn 17 = .ok (.aload_n 0, 1) := dk_42 (dk_at dksX6_turn_0 17 rfl rfl)
theorem dX6_turn_18 : decode cX6_turn 18 = .ok (.iconst 1, 1) := dk_4 (dk_at dksX6_turn_0 18 rfl rfl)
theorem dX6_turn_19 : decode cX6_turn 19 = .ok (.putfield 21, 3) := dk_181 0 21 (dk_at dksX6_turn_0 19 rfl rfl)
theorem dX6_turn_22 : decode cX6_turn 22 = .ok (.goto 22, 3) := dk_167 0 22 (dk_at dksX6_turn_1 0 rfl rfl)
theorem dX6_turn_25 : decode cX6_turn 25 = .ok (.aload_n 0, 1) := dk_42 (dk_at dksX6_turn_1 3 rfl rfl)
theorem dX6_turn_26 : decode cX6_turn 26 = .ok (.iload_n 1, 1) := dk_27 (dk_at dksX6_turn_1 4 rfl rfl)
theorem dX6_turn_27 : decode cX6_turn 27 = .ok (.invokevirtual 34, 3) := dk_182 0 34 (dk_at dksX6_turn_1 5 rfl rfl)
theorem dX6_turn_30 : decode cX6_turn 30 = .ok (.aload_n 0, 1) := dk_42 (dk_at dksX6_turn_1 8 rfl rfl)
theorem dX6_turn_31 : decode cX6_turn 31 = .ok (.iconst 0, 1) := dk_3 (dk_at dksX6_turn_1 9 rfl rfl)
theorem dX6_turn_32 : decode cX6_turn 32 = .ok (.aload_n 0, 1) := dk_42 (dk_at dksX6_turn_1 10 rfl rfl)
theorem dX6_turn_33 : decode cX6_turn 33 = .ok (.getfield 15, 3) := dk_180 0 15 (dk_at dksX6_turn_1 11 rfl rfl)
theorem dX6_turn_36 : decode cX6_turn 36 = .ok (.iconst 3, 1) := dk_6 (dk_at dksX6_turn_1 14 rfl rfl)
theorem dX6_turn_37 : decode cX6_turn 37 = .ok (.isub, 1) := dk_100 (dk_at dksX6_turn_1 15 rfl rfl)
theorem dX6_turn_38 : decode cX6_turn 38 = .ok (.invokestatic 25, 3) := dk_184 0 25 (dk_at dksX6_turn_1 16 rfl rfl)
theorem dX6_turn_41 : decode cX6_turn 41 = .ok (.invokevirtual 34, 3) := dk_182 0 34 (dk_at dksX6_turn_1 19 rfl rfl)
theorem dX6_turn_44 : decode cX6_turn 44 = .ok (.aload_n 0, 1) := dk_42 (dk_at dksX6_turn_1 22 rfl rfl)
theorem dX6_turn_45 : decode cX6_turn 45 = .ok (.iconst 0, 1) := dk_3 (dk_at dksX6_turn_1 23 rfl rfl)
theorem dX6_turn_46 : decode cX6_turn 46 = .ok (.aload_n 0, 1) := dk_42 (dk_at dksX6_turn_2 0 rfl rfl)
theorem dX6_turn_47 : decode cX6_turn 47 = .ok (.getfield 15, 3) := dk_180 0 15 (dk_at dksX6_turn_2 1 rfl rfl)
theorem dX6_turn_50 : decode cX6_turn 50 = .ok (.iconst 1, 1) := dk_4 (dk_at dksX6_turn_2 4 rfl rfl)
theorem dX6_turn_51 : decode cX6_turn 51 = .ok (.isub, 1) := dk_100 (dk_at dksX6_turn_2 5 rfl rfl)
theorem dX6_turn_52 : decode cX6_turn 52 = .ok (.invokestatic 31, 3) := dk_184 0 31 (dk_at dksX6_turn_2 6 rfl rfl)
theorem dX6_turn_55 : decode cX6_turn 55 = .ok (.putfield 15, 3) := dk_181 0 15 (dk_at dksX6_turn_2 9 rfl rfl)
theorem dX6_turn_58 : decode cX6_turn 58 = .ok (.iload_n 2, 1) := dk_28 (dk_at dksX6_turn_2 12 rfl rfl)
theorem dX6_turn_59 : decode cX6_turn 59 = .ok (.ireturn, 1) := dk_172 (dk_at dksX6_turn_2 13 rfl rfl)
abbrev iX6_turn : xM := (yX6_turn, cX6_turn, 3, (some .boolean), [])
theorem mX6_turn : xOkM iX6_turn := ⟨by decide +kernel, by decide, q2700, q167⟩
abbrev cX6_change : ByteArray := prog_10_method_3_code
def yX6_change : MethodName := ⟨RX6, "change", "(I)V"⟩
def dkwX6_change_1 : List UInt8 := [184, 0, 31, 181, 0, 9, 177]
abbrev dktX6_change_1 : List UInt8 := dkwX6_change_1 ++ []
def dkwX6_change_0 : List UInt8 := [42, 180, 0, 21, 154, 0, 25, 42, 17, 252, 25, 17, 3, 231, 42, 180, 0, 9, 27, 96, 184, 0, 25]
abbrev dktX6_change_0 : List UInt8 := dkwX6_change_0 ++ dktX6_change_1
theorem dksX6_change_0 : cX6_change.data.toList.drop 0 = dktX6_change_0 := by decide +kernel
theorem dksX6_change_1 : cX6_change.data.toList.drop 23 = dktX6_change_1 := dk_seg dksX6_change_0 23 rfl rfl
theorem dX6_change_0 : decode cX6_change 0 = .ok (.aload_n 0, 1) := dk_42 (dk_at dksX6_change_0 0 rfl rfl)
theorem dX6_change_1 : decode cX6_change 1 = .ok (.getfield 21, 3) := dk_180 0 21 (dk_at dksX6_change_0 1 rfl rfl)
theorem dX6_change_4 : decode cX6_change 4 = .ok (.ifCond .ne 25, 3) := dk_154 0 25 (dk_at dksX6_change_0 4 rfl rfl)
theorem dX6_change_7 : decode cX6_change 7 = .ok (.aload_n 0, 1) := dk_42 (dk_at dksX6_change_0 7 rfl rfl)
theorem dX6_change_8 : decode cX6_change 8 = .ok (.sipush (-999), 3) := dk_17 252 25 (dk_at dksX6_change_0 8 rfl rfl)
theorem dX6_change_11 : decode cX6_change 11 = .ok (.sipush 999, 3) := dk_17 3 231 (dk_at dksX6_change_0 11 rfl rfl)
theorem dX6_change_14 : decode cX6_change 14 = .ok (.aload_n 0, 1) := dk_42 (dk_at dksX6_change_0 14 rfl rfl)
theorem dX6_change_15 : decode cX6_change 15 = .ok (.getfield 9, 3) := dk_180 0 9 (dk_at dksX6_change_0 15 rfl rfl)
theorem dX6_change_18 : decode cX6_change 18 = .ok (.iload_n 1, 1) := dk_27 (dk_at dksX6_change_0 18 rfl rfl)
theorem dX6_change_19 : decode cX6_change 19 = .ok (.iadd, 1) := dk_96 (dk_at dksX6_change_0 19 rfl rfl)
theorem dX6_change_20 : decode cX6_change 20 = .ok (.invokestatic 25, 3) := dk_184 0 25 (dk_at dksX6_change_0 20 rfl rfl)
theorem dX6_change_23 : decode cX6_change 23 = .ok (.invokestatic 31, 3) := dk_184 0 31 (dk_at dksX6_change_1 0 rfl rfl)
theorem dX6_change_26 : decode cX6_change 26 = .ok (.putfield 9, 3) := dk_181 0 9 (dk_at dksX6_change_1 3 rfl rfl)
theorem dX6_change_29 : decode cX6_change 29 = .ok (.return_, 1) := dk_177 (dk_at dksX6_change_1 6 rfl rfl)
abbrev iX6_change : xM := (yX6_change, cX6_change, 2, none, [])
theorem mX6_change : xOkM iX6_change := ⟨by decide +kernel, by decide, q2704, q167⟩
abbrev cX6_hold : ByteArray := prog_10_method_5_code
def yX6_hold : MethodName := ⟨RX6, "hold", "()V"⟩
def dkwX6_hold_0 : List UInt8 := [42, 3, 42, 180, 0, 15, 8, 100, 184, 0, 25, 182, 0, 34, 177]
abbrev dktX6_hold_0 : List UInt8 := dkwX6_hold_0 ++ []
theorem dksX6_hold_0 : cX6_hold.data.toList.drop 0 = dktX6_hold_0 := by decide +kernel
theorem dX6_hold_0 : decode cX6_hold 0 = .ok (.aload_n 0, 1) := dk_42 (dk_at dksX6_hold_0 0 rfl rfl)
theorem dX6_hold_1 : decode cX6_hold 1 = .ok (.iconst 0, 1) := dk_3 (dk_at dksX6_hold_0 1 rfl rfl)
theorem dX6_hold_2 : decode cX6_hold 2 = .ok (.aload_n 0, 1) := dk_42 (dk_at dksX6_hold_0 2 rfl rfl)
theorem dX6_hold_3 : decode cX6_hold 3 = .ok (.getfield 15, 3) := dk_180 0 15 (dk_at dksX6_hold_0 3 rfl rfl)
theorem dX6_hold_6 : decode cX6_hold 6 = .ok (.iconst 5, 1) := dk_8 (dk_at dksX6_hold_0 6 rfl rfl)
theorem dX6_hold_7 : decode cX6_hold 7 = .ok (.isub, 1) := dk_100 (dk_at dksX6_hold_0 7 rfl rfl)
theorem dX6_hold_8 : decode cX6_hold 8 = .ok (.invokestatic 25, 3) := dk_184 0 25 (dk_at dksX6_hold_0 8 rfl rfl)
theorem dX6_hold_11 : decode cX6_hold 11 = .ok (.invokevirtual 34, 3) := dk_182 0 34 (dk_at dksX6_hold_0 11 rfl rfl)
theorem dX6_hold_14 : decode cX6_hold 14 = .ok (.return_, 1) := dk_177 (dk_at dksX6_hold_0 14 rfl rfl)
abbrev iX6_hold : xM := (yX6_hold, cX6_hold, 1, none, [])
theorem mX6_hold : xOkM iX6_hold := ⟨by decide +kernel, by decide, q2818, q167⟩
abbrev cX5_init : ByteArray := prog_12_method_1_code
def yX5_init : MethodName := ⟨RX5, "<init>", "(II)V"⟩
def dkwX5_init_0 : List UInt8 := [42, 183, 0, 3, 42, 27, 181, 0, 9, 42, 28, 181, 0, 15, 177]
abbrev dktX5_init_0 : List UInt8 := dkwX5_init_0 ++ []
theorem dksX5_init_0 : cX5_init.data.toList.drop 0 = dktX5_init_0 := by decide +kernel
theorem dX5_init_0 : decode cX5_init 0 = .ok (.aload_n 0, 1) := dk_42 (dk_at dksX5_init_0 0 rfl rfl)
theorem dX5_init_1 : decode cX5_init 1 = .ok (.invokespecial 3, 3) := dk_183 0 3 (dk_at dksX5_init_0 1 rfl rfl)
theorem dX5_init_4 : decode cX5_init 4 = .ok (.aload_n 0, 1) := dk_42 (dk_at dksX5_init_0 4 rfl rfl)
theorem dX5_init_5 : decode cX5_init 5 = .ok (.iload_n 1, 1) := dk_27 (dk_at dksX5_init_0 5 rfl rfl)
theorem dX5_init_6 : decode cX5_init 6 = .ok (.putfield 9, 3) := dk_181 0 9 (dk_at dksX5_init_0 6 rfl rfl)
theorem dX5_init_9 : decode cX5_init 9 = .ok (.aload_n 0, 1) := dk_42 (dk_at dksX5_init_0 9 rfl rfl)
theorem dX5_init_10 : decode cX5_init 10 = .ok (.iload_n 2, 1) := dk_28 (dk_at dksX5_init_0 10 rfl rfl)
theorem dX5_init_11 : decode cX5_init 11 = .ok (.putfield 15, 3) := dk_181 0 15 (dk_at dksX5_init_0 11 rfl rfl)
theorem dX5_init_14 : decode cX5_init 14 = .ok (.return_, 1) := dk_177 (dk_at dksX5_init_0 14 rfl rfl)
abbrev iX5_init : xM := (yX5_init, cX5_init, 3, none, [])
theorem mX5_init : xOkM iX5_init := ⟨by decide +kernel, by decide, q1318, q166⟩
abbrev cX5_hashCode : ByteArray := prog_12_method_3_code
def yX5_hashCode : MethodName := ⟨RX5, "hashCode", "()I"⟩
def dkwX5_hashCode_0 : List UInt8 := [7, 42, 180, 0, 9, 104, 42, 180, 0, 15, 96, 172]
abbrev dktX5_hashCode_0 : List UInt8 := dkwX5_hashCode_0 ++ []
theorem dksX5_hashCode_0 : cX5_hashCode.data.toList.drop 0 = dktX5_hashCode_0 := by decide +kernel
theorem dX5_hashCode_0 : decode cX5_hashCode 0 = .ok (.iconst 4, 1) := dk_7 (dk_at dksX5_hashCode_0 0 rfl rfl)
theorem dX5_hashCode_1 : decode cX5_hashCode 1 = .ok (.aload_n 0, 1) := dk_42 (dk_at dksX5_hashCode_0 1 rfl rfl)
theorem dX5_hashCode_2 : decode cX5_hashCode 2 = .ok (.getfield 9, 3) := dk_180 0 9 (dk_at dksX5_hashCode_0 2 rfl rfl)
theorem dX5_hashCode_5 : decode cX5_hashCode 5 = .ok (.imul, 1) := dk_104 (dk_at dksX5_hashCode_0 5 rfl rfl)
theorem dX5_hashCode_6 : decode cX5_hashCode 6 = .ok (.aload_n 0, 1) := dk_42 (dk_at dksX5_hashCode_0 6 rfl rfl)
theorem dX5_hashCode_7 : decode cX5_hashCode 7 = .ok (.getfield 15, 3) := dk_180 0 15 (dk_at dksX5_hashCode_0 7 rfl rfl)
theorem dX5_hashCode_10 : decode cX5_hashCode 10 = .ok (.iadd, 1) := dk_96 (dk_at dksX5_hashCode_0 10 rfl rfl)
theorem dX5_hashCode_11 : decode cX5_hashCode 11 = .ok (.ireturn, 1) := dk_172 (dk_at dksX5_hashCode_0 11 rfl rfl)
abbrev iX5_hashCode : xM := (yX5_hashCode, cX5_hashCode, 1, (some .int), [])
theorem mX5_hashCode : xOkM iX5_hashCode := ⟨by decide +kernel, by decide, q1376, q166⟩
abbrev cX5_equals : ByteArray := prog_12_method_2_code
def yX5_equals : MethodName := ⟨RX5, "equals", "(Ljava/lang/Object;)Z"⟩
def dkwX5_equals_1 : List UInt8 := [180, 0, 15, 42, 180, 0, 15, 160, 0, 7, 4, 167, 0, 4, 3, 172]
abbrev dktX5_equals_1 : List UInt8 := dkwX5_equals_1 ++ []
def dkwX5_equals_0 : List UInt8 := [43, 193, 0, 10, 153, 0, 34, 43, 192, 0, 10, 77, 44, 180, 0, 9, 42, 180, 0, 9, 160, 0, 18, 44]
abbrev dktX5_equals_0 : List UInt8 := dkwX5_equals_0 ++ dktX5_equals_1
theorem dksX5_equals_0 : cX5_equals.data.toList.drop 0 = dktX5_equals_0 := by decide +kernel
theorem dksX5_equals_1 : cX5_equals.data.toList.drop 24 = dktX5_equals_1 := dk_seg dksX5_equals_0 24 rfl rfl
theorem dX5_equals_0 : decode cX5_equals 0 = .ok (.aload_n 1, 1) := dk_43 (dk_at dksX5_equals_0 0 rfl rfl)
theorem dX5_equals_1 : decode cX5_equals 1 = .ok (.instanceof 10, 3) := dk_193 0 10 (dk_at dksX5_equals_0 1 rfl rfl)
theorem dX5_equals_4 : decode cX5_equals 4 = .ok (.ifCond .eq 34, 3) := dk_153 0 34 (dk_at dksX5_equals_0 4 rfl rfl)
theorem dX5_equals_7 : decode cX5_equals 7 = .ok (.aload_n 1, 1) := dk_43 (dk_at dksX5_equals_0 7 rfl rfl)
theorem dX5_equals_8 : decode cX5_equals 8 = .ok (.checkcast 10, 3) := dk_192 0 10 (dk_at dksX5_equals_0 8 rfl rfl)
theorem dX5_equals_11 : decode cX5_equals 11 = .ok (.astore_n 2, 1) := dk_77 (dk_at dksX5_equals_0 11 rfl rfl)
theorem dX5_equals_12 : decode cX5_equals 12 = .ok (.aload_n 2, 1) := dk_44 (dk_at dksX5_equals_0 12 rfl rfl)
theorem dX5_equals_13 : decode cX5_equals 13 = .ok (.getfield 9, 3) := dk_180 0 9 (dk_at dksX5_equals_0 13 rfl rfl)
theorem dX5_equals_16 : decode cX5_equals 16 = .ok (.aload_n 0, 1) := dk_42 (dk_at dksX5_equals_0 16 rfl rfl)
theorem dX5_equals_17 : decode cX5_equals 17 = .ok (.getfield 9, 3) := dk_180 0 9 (dk_at dksX5_equals_0 17 rfl rfl)
theorem dX5_equals_20 : decode cX5_equals 20 = .ok (.if_icmp .ne 18, 3) := dk_160 0 18 (dk_at dksX5_equals_0 20 rfl rfl)
theorem dX5_equals_23 : decode cX5_equals 23 = .ok (.aload_n 2, 1) := dk_44 (dk_at dksX5_equals_0 23 rfl rfl)
theorem dX5_equals_24 : decode cX5_equals 24 = .ok (.getfield 15, 3) := dk_180 0 15 (dk_at dksX5_equals_1 0 rfl rfl)
theorem dX5_equals_27 : decode cX5_equals 27 = .ok (.aload_n 0, 1) := dk_42 (dk_at dksX5_equals_1 3 rfl rfl)
theorem dX5_equals_28 : decode cX5_equals 28 = .ok (.getfield 15, 3) := dk_180 0 15 (dk_at dksX5_equals_1 4 rfl rfl)
theorem dX5_equals_31 : decode cX5_equals 31 = .ok (.if_icmp .ne 7, 3) := dk_160 0 7 (dk_at dksX5_equals_1 7 rfl rfl)
theorem dX5_equals_34 : decode cX5_equals 34 = .ok (.iconst 1, 1) := dk_4 (dk_at dksX5_equals_1 10 rfl rfl)
theorem dX5_equals_35 : decode cX5_equals 35 = .ok (.goto 4, 3) := dk_167 0 4 (dk_at dksX5_equals_1 11 rfl rfl)
theorem dX5_equals_38 : decode cX5_equals 38 = .ok (.iconst 0, 1) := dk_3 (dk_at dksX5_equals_1 14 rfl rfl)
theorem dX5_equals_39 : decode cX5_equals 39 = .ok (.ireturn, 1) := dk_172 (dk_at dksX5_equals_1 15 rfl rfl)
abbrev iX5_equals : xM := (yX5_equals, cX5_equals, 3, (some .boolean), [])
theorem mX5_equals : xOkM iX5_equals := ⟨by decide +kernel, by decide, q1809, q166⟩
abbrev cX4_init : ByteArray := prog_4_method_1_code
def yX4_init : MethodName := ⟨RX4, "<init>", "(ILjava/lang/String;I)V"⟩
def dkwX4_init_1 : List UInt8 := [181, 0, 22, 42, 29, 181, 0, 26, 177]
abbrev dktX4_init_1 : List UInt8 := dkwX4_init_1 ++ []
def dkwX4_init_0 : List UInt8 := [42, 183, 0, 3, 42, 7, 188, 10, 181, 0, 9, 42, 2, 181, 0, 15, 42, 27, 181, 0, 19, 42, 44]
abbrev dktX4_init_0 : List UInt8 := dkwX4_init_0 ++ dktX4_init_1
theorem dksX4_init_0 : cX4_init.data.toList.drop 0 = dktX4_init_0 := by decide +kernel
theorem dksX4_init_1 : cX4_init.data.toList.drop 23 = dktX4_init_1 := dk_seg dksX4_init_0 23 rfl rfl
theorem dX4_init_0 : decode cX4_init 0 = .ok (.aload_n 0, 1) := dk_42 (dk_at dksX4_init_0 0 rfl rfl)
theorem dX4_init_1 : decode cX4_init 1 = .ok (.invokespecial 3, 3) := dk_183 0 3 (dk_at dksX4_init_0 1 rfl rfl)
theorem dX4_init_4 : decode cX4_init 4 = .ok (.aload_n 0, 1) := dk_42 (dk_at dksX4_init_0 4 rfl rfl)
theorem dX4_init_5 : decode cX4_init 5 = .ok (.iconst 4, 1) := dk_7 (dk_at dksX4_init_0 5 rfl rfl)
theorem dX4_init_6 : decode cX4_init 6 = .ok (.newarray .int, 2) := dk_188_10 (dk_at dksX4_init_0 6 rfl rfl)
theorem dX4_init_8 : decode cX4_init 8 = .ok (.putfield 9, 3) := dk_181 0 9 (dk_at dksX4_init_0 8 rfl rfl)
theorem dX4_init_11 : decode cX4_init 11 = .ok (.aload_n 0, 1) := dk_42 (dk_at dksX4_init_0 11 rfl rfl)
theorem dX4_init_12 : decode cX4_init 12 = .ok (.iconst (-1), 1) := dk_2 (dk_at dksX4_init_0 12 rfl rfl)
theorem dX4_init_13 : decode cX4_init 13 = .ok (.putfield 15, 3) := dk_181 0 15 (dk_at dksX4_init_0 13 rfl rfl)
theorem dX4_init_16 : decode cX4_init 16 = .ok (.aload_n 0, 1) := dk_42 (dk_at dksX4_init_0 16 rfl rfl)
theorem dX4_init_17 : decode cX4_init 17 = .ok (.iload_n 1, 1) := dk_27 (dk_at dksX4_init_0 17 rfl rfl)
theorem dX4_init_18 : decode cX4_init 18 = .ok (.putfield 19, 3) := dk_181 0 19 (dk_at dksX4_init_0 18 rfl rfl)
theorem dX4_init_21 : decode cX4_init 21 = .ok (.aload_n 0, 1) := dk_42 (dk_at dksX4_init_0 21 rfl rfl)
theorem dX4_init_22 : decode cX4_init 22 = .ok (.aload_n 2, 1) := dk_44 (dk_at dksX4_init_0 22 rfl rfl)
theorem dX4_init_23 : decode cX4_init 23 = .ok (.putfield 22, 3) := dk_181 0 22 (dk_at dksX4_init_1 0 rfl rfl)
theorem dX4_init_26 : decode cX4_init 26 = .ok (.aload_n 0, 1) := dk_42 (dk_at dksX4_init_1 3 rfl rfl)
theorem dX4_init_27 : decode cX4_init 27 = .ok (.iload_n 3, 1) := dk_29 (dk_at dksX4_init_1 4 rfl rfl)
theorem dX4_init_28 : decode cX4_init 28 = .ok (.putfield 26, 3) := dk_181 0 26 (dk_at dksX4_init_1 5 rfl rfl)
theorem dX4_init_31 : decode cX4_init 31 = .ok (.return_, 1) := dk_177 (dk_at dksX4_init_1 8 rfl rfl)
abbrev iX4_init : xM := (yX4_init, cX4_init, 4, none, [])
theorem mX4_init : xOkM iX4_init := ⟨by decide +kernel, by decide, q1247, q165⟩
abbrev cX4_init_2 : ByteArray := prog_4_method_2_code
def yX4_init_2 : MethodName := ⟨RX4, "<init>", "(LFiddleRow$Fiddler;)V"⟩
def dkwX4_init_2_2 : List UInt8 := [180, 0, 9, 3, 7, 184, 0, 38, 177]
abbrev dktX4_init_2_2 : List UInt8 := dkwX4_init_2_2 ++ []
def dkwX4_init_2_1 : List UInt8 := [42, 43, 180, 0, 32, 181, 0, 32, 42, 43, 180, 0, 35, 181, 0, 35, 43, 180, 0, 9, 3, 42]
abbrev dktX4_init_2_1 : List UInt8 := dkwX4_init_2_1 ++ dktX4_init_2_2
def dkwX4_init_2_0 : List UInt8 := [42, 43, 180, 0, 19, 43, 180, 0, 22, 43, 180, 0, 26, 183, 0, 29, 42, 43, 180, 0, 15, 181, 0, 15]
abbrev dktX4_init_2_0 : List UInt8 := dkwX4_init_2_0 ++ dktX4_init_2_1
theorem dksX4_init_2_0 : cX4_init_2.data.toList.drop 0 = dktX4_init_2_0 := by decide +kernel
theorem dksX4_init_2_1 : cX4_init_2.data.toList.drop 24 = dktX4_init_2_1 := dk_seg dksX4_init_2_0 24 rfl rfl
theorem dksX4_init_2_2 : cX4_init_2.data.toList.drop 46 = dktX4_init_2_2 := dk_seg dksX4_init_2_1 22 rfl rfl
theorem dX4_init_2_0 : decode cX4_init_2 0 = .ok (.aload_n 0, 1) := dk_42 (dk_at dksX4_init_2_0 0 rfl rfl)
theorem dX4_init_2_1 : decode cX4_init_2 1 = .ok (.aload_n 1, 1) := dk_43 (dk_at dksX4_init_2_0 1 rfl rfl)
theorem dX4_init_2_2 : decode cX4_init_2 2 = .ok (.getfield 19, 3) := dk_180 0 19 (dk_at dksX4_init_2_0 2 rfl rfl)
theorem dX4_init_2_5 : decode cX4_init_2 5 = .ok (.aload_n 1, 1) := dk_43 (dk_at dksX4_init_2_0 5 rfl rfl)
theorem dX4_init_2_6 : decode cX4_init_2 6 = .ok (.getfield 22, 3) := dk_180 0 22 (dk_at dksX4_init_2_0 6 rfl rfl)
theorem dX4_init_2_9 : decode cX4_init_2 9 = .ok (.aload_n 1, 1) := dk_43 (dk_at dksX4_init_2_0 9 rfl rfl)
theorem dX4_init_2_10 : decode cX4_init_2 10 = .ok (.getfield 26, 3) := dk_180 0 26 (dk_at dksX4_init_2_0 10 rfl rfl)
theorem dX4_init_2_13 : decode cX4_init_2 13 = .ok (.invokespecial 29, 3) := dk_183 0 29 (dk_at dksX4_init_2_0 13 rfl rfl)
theorem dX4_init_2_16 : decode cX4_init_2 16 = .ok (.aload_n 0, 1) := dk_42 (dk_at dksX4_init_2_0 16 rfl rfl)
theorem dX4_init_2_17 : decode cX4_init_2 17 = .ok (.aload_n 1, 1) := dk_43 (dk_at dksX4_init_2_0 17 rfl rfl)
theorem dX4_init_2_18 : decode cX4_init_2 18 = .ok (.getfield 15, 3) := dk_180 0 15 (dk_at dksX4_init_2_0 18 rfl rfl)
theorem dX4_init_2_21 : decode cX4_init_2 21 = .ok (.putfield 15, 3) := dk_181 0 15 (dk_at dksX4_init_2_0 21 rfl rfl)
theorem dX4_init_2_24 : decode cX4_init_2 24 = .ok (.aload_n 0, 1) := dk_42 (dk_at dksX4_init_2_1 0 rfl rfl)
theorem dX4_init_2_25 : decode cX4_init_2 25 = .ok (.aload_n 1, 1) := dk_43 (dk_at dksX4_init_2_1 1 rfl rfl)
theorem dX4_init_2_26 : decode cX4_init_2 26 = .ok (.getfield 32, 3) := dk_180 0 32 (dk_at dksX4_init_2_1 2 rfl rfl)
theorem dX4_init_2_29 : decode cX4_init_2 29 = .ok (.putfield 32, 3) := dk_181 0 32 (dk_at dksX4_init_2_1 5 rfl rfl)
theorem dX4_init_2_32 : decode cX4_init_2 32 = .ok (.aload_n 0, 1) := dk_42 (dk_at dksX4_init_2_1 8 rfl rfl)
theorem dX4_init_2_33 : decode cX4_init_2 33 = .ok (.aload_n 1, 1) := dk_43 (dk_at dksX4_init_2_1 9 rfl rfl)
theorem dX4_init_2_34 : decode cX4_init_2 34 = .ok (.getfield 35, 3) := dk_180 0 35 (dk_at dksX4_init_2_1 10 rfl rfl)
theorem dX4_init_2_37 : decode cX4_init_2 37 = .ok (.putfield 35, 3) := dk_181 0 35 (dk_at dksX4_init_2_1 13 rfl rfl)
theorem dX4_init_2_40 : decode cX4_init_2 40 = .ok (.aload_n 1, 1) := dk_43 (dk_at dksX4_init_2_1 16 rfl rfl)
theorem dX4_init_2_41 : decode cX4_init_2 41 = .ok (.getfield 9, 3) := dk_180 0 9 (dk_at dksX4_init_2_1 17 rfl rfl)
theorem dX4_init_2_44 : decode cX4_init_2 44 = .ok (.iconst 0, 1) := dk_3 (dk_at dksX4_init_2_1 20 rfl rfl)
theorem dX4_init_2_45 : decode cX4_init_2 45 = .ok (.aload_n 0, 1) := dk_42 (dk_at dksX4_init_2_1 21 rfl rfl)
theorem dX4_init_2_46 : decode cX4_init_2 46 = .ok (.getfield 9, 3) := dk_180 0 9 (dk_at dksX4_init_2_2 0 rfl rfl)
theorem dX4_init_2_49 : decode cX4_init_2 49 = .ok (.iconst 0, 1) := dk_3 (dk_at dksX4_init_2_2 3 rfl rfl)
theorem dX4_init_2_50 : decode cX4_init_2 50 = .ok (.iconst 4, 1) := dk_7 (dk_at dksX4_init_2_2 4 rfl rfl)
theorem dX4_init_2_51 : decode cX4_init_2 51 = .ok (.invokestatic 38, 3) := dk_184 0 38 (dk_at dksX4_init_2_2 5 rfl rfl)
theorem dX4_init_2_54 : decode cX4_init_2 54 = .ok (.return_, 1) := dk_177 (dk_at dksX4_init_2_2 8 rfl rfl)
abbrev iX4_init_2 : xM := (yX4_init_2, cX4_init_2, 2, none, [])
theorem mX4_init_2 : xOkM iX4_init_2 := ⟨by decide +kernel, by decide, q2401, q165⟩
abbrev cX4_forget : ByteArray := prog_4_method_4_code
def yX4_forget : MethodName := ⟨RX4, "forget", "()V"⟩
def dkwX4_forget_0 : List UInt8 := [42, 2, 181, 0, 15, 42, 3, 181, 0, 32, 42, 4, 181, 0, 35, 177]
abbrev dktX4_forget_0 : List UInt8 := dkwX4_forget_0 ++ []
theorem dksX4_forget_0 : cX4_forget.data.toList.drop 0 = dktX4_forget_0 := by decide +kernel
theorem dX4_forget_0 : decode cX4_forget 0 = .ok (.aload_n 0, 1) := dk_42 (dk_at dksX4_forget_0 0 rfl rfl)
theorem dX4_forget_1 : decode cX4_forget 1 = .ok (.iconst (-1), 1) := dk_2 (dk_at dksX4_forget_0 1 rfl rfl)
theorem dX4_forget_2 : decode cX4_forget 2 = .ok (.putfield 15, 3) := dk_181 0 15 (dk_at dksX4_forget_0 2 rfl rfl)
theorem dX4_forget_5 : decode cX4_forget 5 = .ok (.aload_n 0, 1) := dk_42 (dk_at dksX4_forget_0 5 rfl rfl)
theorem dX4_forget_6 : decode cX4_forget 6 = .ok (.iconst 0, 1) := dk_3 (dk_at dksX4_forget_0 6 rfl rfl)
theorem dX4_forget_7 : decode cX4_forget 7 = .ok (.putfield 32, 3) := dk_181 0 32 (dk_at dksX4_forget_0 7 rfl rfl)
theorem dX4_forget_10 : decode cX4_forget 10 = .ok (.aload_n 0, 1) := dk_42 (dk_at dksX4_forget_0 10 rfl rfl)
theorem dX4_forget_11 : decode cX4_forget 11 = .ok (.iconst 1, 1) := dk_4 (dk_at dksX4_forget_0 11 rfl rfl)
theorem dX4_forget_12 : decode cX4_forget 12 = .ok (.putfield 35, 3) := dk_181 0 35 (dk_at dksX4_forget_0 12 rfl rfl)
theorem dX4_forget_15 : decode cX4_forget 15 = .ok (.return_, 1) := dk_177 (dk_at dksX4_forget_0 15 rfl rfl)
abbrev iX4_forget : xM := (yX4_forget, cX4_forget, 1, none, [])
theorem mX4_forget : xOkM iX4_forget := ⟨by decide +kernel, by decide, q2662, q165⟩
abbrev cX4_isInTune : ByteArray := prog_4_method_3_code
def yX4_isInTune : MethodName := ⟨RX4, "isInTune", "()Z"⟩
def dkwX4_isInTune_0 : List UInt8 := [42, 180, 0, 32, 158, 0, 7, 4, 167, 0, 4, 3, 172]
abbrev dktX4_isInTune_0 : List UInt8 := dkwX4_isInTune_0 ++ []
theorem dksX4_isInTune_0 : cX4_isInTune.data.toList.drop 0 = dktX4_isInTune_0 := by decide +kernel
theorem dX4_isInTune_0 : decode cX4_isInTune 0 = .ok (.aload_n 0, 1) := dk_42 (dk_at dksX4_isInTune_0 0 rfl rfl)
theorem dX4_isInTune_1 : decode cX4_isInTune 1 = .ok (.getfield 32, 3) := dk_180 0 32 (dk_at dksX4_isInTune_0 1 rfl rfl)
theorem dX4_isInTune_4 : decode cX4_isInTune 4 = .ok (.ifCond .le 7, 3) := dk_158 0 7 (dk_at dksX4_isInTune_0 4 rfl rfl)
theorem dX4_isInTune_7 : decode cX4_isInTune 7 = .ok (.iconst 1, 1) := dk_4 (dk_at dksX4_isInTune_0 7 rfl rfl)
theorem dX4_isInTune_8 : decode cX4_isInTune 8 = .ok (.goto 4, 3) := dk_167 0 4 (dk_at dksX4_isInTune_0 8 rfl rfl)
theorem dX4_isInTune_11 : decode cX4_isInTune 11 = .ok (.iconst 0, 1) := dk_3 (dk_at dksX4_isInTune_0 11 rfl rfl)
theorem dX4_isInTune_12 : decode cX4_isInTune 12 = .ok (.ireturn, 1) := dk_172 (dk_at dksX4_isInTune_0 12 rfl rfl)
abbrev iX4_isInTune : xM := (yX4_isInTune, cX4_isInTune, 1, (some .boolean), [])
theorem mX4_isInTune : xOkM iX4_isInTune := ⟨by decide +kernel, by decide, q2710, q165⟩
abbrev cX3_init : ByteArray := prog_5_method_1_code
def yX3_init : MethodName := ⟨RX3, "<init>", "(IIII)V"⟩
def dkwX3_init_3 : List UInt8 := [181, 0, 46, 42, 21, 4, 181, 0, 49, 42, 29, 181, 0, 52, 42, 21, 4, 181, 0, 55, 177]
abbrev dktX3_init_3 : List UInt8 := dkwX3_init_3 ++ []
def dkwX3_init_2 : List UInt8 := [187, 0, 32, 89, 183, 0, 34, 181, 0, 35, 42, 27, 181, 0, 39, 42, 28, 181, 0, 43, 42, 29]
abbrev dktX3_init_2 : List UInt8 := dkwX3_init_2 ++ dktX3_init_3
def dkwX3_init_1 : List UInt8 := [187, 0, 15, 89, 183, 0, 17, 181, 0, 22, 42, 187, 0, 25, 89, 183, 0, 27, 181, 0, 28, 42]
abbrev dktX3_init_1 : List UInt8 := dkwX3_init_1 ++ dktX3_init_2
def dkwX3_init_0 : List UInt8 := [42, 183, 0, 3, 42, 7, 188, 10, 181, 0, 9, 42, 187, 0, 15, 89, 183, 0, 17, 181, 0, 18, 42]
abbrev dktX3_init_0 : List UInt8 := dkwX3_init_0 ++ dktX3_init_1
theorem dksX3_init_0 : cX3_init.data.toList.drop 0 = dktX3_init_0 := by decide +kernel
theorem dksX3_init_1 : cX3_init.data.toList.drop 23 = dktX3_init_1 := dk_seg dksX3_init_0 23 rfl rfl
theorem dksX3_init_2 : cX3_init.data.toList.drop 45 = dktX3_init_2 := dk_seg dksX3_init_1 22 rfl rfl
theorem dksX3_init_3 : cX3_init.data.toList.drop 67 = dktX3_init_3 := dk_seg dksX3_init_2 22 rfl rfl
theorem dX3_init_0 : decode cX3_init 0 = .ok (.aload_n 0, 1) := dk_42 (dk_at dksX3_init_0 0 rfl rfl)
theorem dX3_init_1 : decode cX3_init 1 = .ok (.invokespecial 3, 3) := dk_183 0 3 (dk_at dksX3_init_0 1 rfl rfl)
theorem dX3_init_4 : decode cX3_init 4 = .ok (.aload_n 0, 1) := dk_42 (dk_at dksX3_init_0 4 rfl rfl)
theorem dX3_init_5 : decode cX3_init 5 = .ok (.iconst 4, 1) := dk_7 (dk_at dksX3_init_0 5 rfl rfl)
theorem dX3_init_6 : decode cX3_init 6 = .ok (.newarray .int, 2) := dk_188_10 (dk_at dksX3_init_0 6 rfl rfl)
theorem dX3_init_8 : decode cX3_init 8 = .ok (.putfield 9, 3) := dk_181 0 9 (dk_at dksX3_init_0 8 rfl rfl)
theorem dX3_init_11 : decode cX3_init 11 = .ok (.aload_n 0, 1) := dk_42 (dk_at dksX3_init_0 11 rfl rfl)
theorem dX3_init_12 : decode cX3_init 12 = .ok (.new 15, 3) := dk_187 0 15 (dk_at dksX3_init_0 12 rfl rfl)
theorem dX3_init_15 : decode cX3_init 15 = .ok (.dup, 1) := dk_89 (dk_at dksX3_init_0 15 rfl rfl)
theorem dX3_init_16 : decode cX3_init 16 = .ok (.invokespecial 17, 3) := dk_183 0 17 (dk_at dksX3_init_0 16 rfl rfl)
theorem dX3_init_19 : decode cX3_init 19 = .ok (.putfield 18, 3) := dk_181 0 18 (dk_at dksX3_init_0 19 rfl rfl)
theorem dX3_init_22 : decode cX3_init 22 = .ok (.aload_n 0, 1) := dk_42 (dk_at dksX3_init_0 22 rfl rfl)
theorem dX3_init_23 : decode cX3_init 23 = .ok (.new 15, 3) := dk_187 0 15 (dk_at dksX3_init_1 0 rfl rfl)
theorem dX3_init_26 : decode cX3_init 26 = .ok (.dup, 1) := dk_89 (dk_at dksX3_init_1 3 rfl rfl)
theorem dX3_init_27 : decode cX3_init 27 = .ok (.invokespecial 17, 3) := dk_183 0 17 (dk_at dksX3_init_1 4 rfl rfl)
theorem dX3_init_30 : decode cX3_init 30 = .ok (.putfield 22, 3) := dk_181 0 22 (dk_at dksX3_init_1 7 rfl rfl)
theorem dX3_init_33 : decode cX3_init 33 = .ok (.aload_n 0, 1) := dk_42 (dk_at dksX3_init_1 10 rfl rfl)
theorem dX3_init_34 : decode cX3_init 34 = .ok (.new 25, 3) := dk_187 0 25 (dk_at dksX3_init_1 11 rfl rfl)
theorem dX3_init_37 : decode cX3_init 37 = .ok (.dup, 1) := dk_89 (dk_at dksX3_init_1 14 rfl rfl)
theorem dX3_init_38 : decode cX3_init 38 = .ok (.invokespecial 27, 3) := dk_183 0 27 (dk_at dksX3_init_1 15 rfl rfl)
theorem dX3_init_41 : decode cX3_init 41 = .ok (.putfield 28, 3) := dk_181 0 28 (dk_at dksX3_init_1 18 rfl rfl)
theorem dX3_init_44 : decode cX3_init 44 = .ok (.aload_n 0, 1) := dk_42 (dk_at dksX3_init_1 21 rfl rfl)
theorem dX3_init_45 : decode cX3_init 45 = .ok (.new 32, 3) := dk_187 0 32 (dk_at dksX3_init_2 0 rfl rfl)
theorem dX3_init_48 : decode cX3_init 48 = .ok (.dup, 1) := dk_89 (dk_at dksX3_init_2 3 rfl rfl)
theorem dX3_init_49 : decode cX3_init 49 = .ok (.invokespecial 34, 3) := dk_183 0 34 (dk_at dksX3_init_2 4 rfl rfl)
theorem dX3_init_52 : decode cX3_init 52 = .ok (.putfield 35, 3) := dk_181 0 35 (dk_at dksX3_init_2 7 rfl rfl)
theorem dX3_init_55 : decode cX3_init 55 = .ok (.aload_n 0, 1) := dk_42 (dk_at dksX3_init_2 10 rfl rfl)
theorem dX3_init_56 : decode cX3_init 56 = .ok (.iload_n 1, 1) := dk_27 (dk_at dksX3_init_2 11 rfl rfl)
theorem dX3_init_57 : decode cX3_init 57 = .ok (.putfield 39, 3) := dk_181 0 39 (dk_at dksX3_init_2 12 rfl rfl)
theorem dX3_init_60 : decode cX3_init 60 = .ok (.aload_n 0, 1) := dk_42 (dk_at dksX3_init_2 15 rfl rfl)
theorem dX3_init_61 : decode cX3_init 61 = .ok (.iload_n 2, 1) := dk_28 (dk_at dksX3_init_2 16 rfl rfl)
theorem dX3_init_62 : decode cX3_init 62 = .ok (.putfield 43, 3) := dk_181 0 43 (dk_at dksX3_init_2 17 rfl rfl)
theorem dX3_init_65 : decode cX3_init 65 = .ok (.aload_n 0, 1) := dk_42 (dk_at dksX3_init_2 20 rfl rfl)
theorem dX3_init_66 : decode cX3_init 66 = .ok (.iload_n 3, 1) := dk_29 (dk_at dksX3_init_2 21 rfl rfl)
theorem dX3_init_67 : decode cX3_init 67 = .ok (.putfield 46, 3) := dk_181 0 46 (dk_at dksX3_init_3 0 rfl rfl)
theorem dX3_init_70 : decode cX3_init 70 = .ok (.aload_n 0, 1) := dk_42 (dk_at dksX3_init_3 3 rfl rfl)
theorem dX3_init_71 : decode cX3_init 71 = .ok (.iload 4, 2) := dk_21 4 (dk_at dksX3_init_3 4 rfl rfl)
theorem dX3_init_73 : decode cX3_init 73 = .ok (.putfield 49, 3) := dk_181 0 49 (dk_at dksX3_init_3 6 rfl rfl)
theorem dX3_init_76 : decode cX3_init 76 = .ok (.aload_n 0, 1) := dk_42 (dk_at dksX3_init_3 9 rfl rfl)
theorem dX3_init_77 : decode cX3_init 77 = .ok (.iload_n 3, 1) := dk_29 (dk_at dksX3_init_3 10 rfl rfl)
theorem dX3_init_78 : decode cX3_init 78 = .ok (.putfield 52, 3) := dk_181 0 52 (dk_at dksX3_init_3 11 rfl rfl)
theorem dX3_init_81 : decode cX3_init 81 = .ok (.aload_n 0, 1) := dk_42 (dk_at dksX3_init_3 14 rfl rfl)
theorem dX3_init_82 : decode cX3_init 82 = .ok (.iload 4, 2) := dk_21 4 (dk_at dksX3_init_3 15 rfl rfl)
theorem dX3_init_84 : decode cX3_init 84 = .ok (.putfield 55, 3) := dk_181 0 55 (dk_at dksX3_init_3 17 rfl rfl)
theorem dX3_init_87 : decode cX3_init 87 = .ok (.return_, 1) := dk_177 (dk_at dksX3_init_3 20 rfl rfl)
abbrev iX3_init : xM := (yX3_init, cX3_init, 5, none, [])
theorem mX3_init : xOkM iX3_init := ⟨by decide +kernel, by decide, q215, q132⟩
abbrev cX3_addFiddler : ByteArray := prog_5_method_9_code
def yX3_addFiddler : MethodName := ⟨RX3, "addFiddler", "(Ljava/lang/String;I[I[I)V"⟩
def dkwX3_addFiddler_3 : List UInt8 := [46, 25, 4, 21, 6, 46, 183, 0, 187, 182, 0, 137, 192, 0, 129, 58, 7, 132, 6, 1, 167, 255, 205, 177]
abbrev dktX3_addFiddler_3 : List UInt8 := dkwX3_addFiddler_3 ++ []
def dkwX3_addFiddler_2 : List UInt8 := [180, 0, 28, 187, 0, 127, 89, 25, 5, 180, 0, 108, 21, 6, 183, 0, 158, 187, 0, 129, 89, 45, 21, 6]
abbrev dktX3_addFiddler_2 : List UInt8 := dkwX3_addFiddler_2 ++ dktX3_addFiddler_3
def dkwX3_addFiddler_1 : List UInt8 := [182, 0, 104, 87, 42, 180, 0, 22, 25, 5, 182, 0, 104, 87, 3, 54, 6, 21, 6, 7, 162, 0, 51, 42]
abbrev dktX3_addFiddler_1 : List UInt8 := dkwX3_addFiddler_1 ++ dktX3_addFiddler_2
def dkwX3_addFiddler_0 : List UInt8 := [187, 0, 99, 89, 42, 180, 0, 18, 182, 0, 146, 43, 28, 183, 0, 184, 58, 5, 42, 180, 0, 18, 25, 5]
abbrev dktX3_addFiddler_0 : List UInt8 := dkwX3_addFiddler_0 ++ dktX3_addFiddler_1
theorem dksX3_addFiddler_0 : cX3_addFiddler.data.toList.drop 0 = dktX3_addFiddler_0 := by decide +kernel
theorem dksX3_addFiddler_1 : cX3_addFiddler.data.toList.drop 24 = dktX3_addFiddler_1 := dk_seg dksX3_addFiddler_0 24 rfl rfl
theorem dksX3_addFiddler_2 : cX3_addFiddler.data.toList.drop 48 = dktX3_addFiddler_2 := dk_seg dksX3_addFiddler_1 24 rfl rfl
theorem dksX3_addFiddler_3 : cX3_addFiddler.data.toList.drop 72 = dktX3_addFiddler_3 := dk_seg dksX3_addFiddler_2 24 rfl rfl
theorem dX3_addFiddler_0 : decode cX3_addFiddler 0 = .ok (.new 99, 3) := dk_187 0 99 (dk_at dksX3_addFiddler_0 0 rfl rfl)
theorem dX3_addFiddler_3 : decode cX3_addFiddler 3 = .ok (.dup, 1) := dk_89 (dk_at dksX3_addFiddler_0 3 rfl rfl)
theorem dX3_addFiddler_4 : decode cX3_addFiddler 4 = .ok (.aload_n 0, 1) := dk_42 (dk_at dksX3_addFiddler_0 4 rfl rfl)
theorem dX3_addFiddler_5 : decode cX3_addFiddler 5 = .ok (.getfield 18, 3) := dk_180 0 18 (dk_at dksX3_addFiddler_0 5 rfl rfl)
theorem dX3_addFiddler_8 : decode cX3_addFiddler 8 = .ok (.invokevirtual 146, 3) := dk_182 0 146 (dk_at dksX3_addFiddler_0 8 rfl rfl)
theorem dX3_addFiddler_11 : decode cX3_addFiddler 11 = .ok (.aload_n 1, 1) := dk_43 (dk_at dksX3_addFiddler_0 11 rfl rfl)
theorem dX3_addFiddler_12 : decode cX3_addFiddler 12 = .ok (.iload_n 2, 1) := dk_28 (dk_at dksX3_addFiddler_0 12 rfl rfl)
theorem dX3_addFiddler_13 : decode cX3_addFiddler 13 = .ok (.invokespecial 184, 3) := dk_183 0 184 (dk_at dksX3_addFiddler_0 13 rfl rfl)
theorem dX3_addFiddler_16 : decode cX3_addFiddler 16 = .ok (.astore 5, 2) := dk_58 5 (dk_at dksX3_addFiddler_0 16 rfl rfl)
theorem dX3_addFiddler_18 : decode cX3_addFiddler 18 = .ok (.aload_n 0, 1) := dk_42 (dk_at dksX3_addFiddler_0 18 rfl rfl)
theorem dX3_addFiddler_19 : decode cX3_addFiddler 19 = .ok (.getfield 18, 3) := dk_180 0 18 (dk_at dksX3_addFiddler_0 19 rfl rfl)
theorem dX3_addFiddler_22 : decode cX3_addFiddler 22 = .ok (.aload 5, 2) := dk_25 5 (dk_at dksX3_addFiddler_0 22 rfl rfl)
theorem dX3_addFiddler_24 : decode cX3_addFiddler 24 = .ok (.invokevirtual 104, 3) := dk_182 0 104 (dk_at dksX3_addFiddler_1 0 rfl rfl)
theorem dX3_addFiddler_27 : decode cX3_addFiddler 27 = .ok (.pop, 1) := dk_87 (dk_at dksX3_addFiddler_1 3 rfl rfl)
theorem dX3_addFiddler_28 : decode cX3_addFiddler 28 = .ok (.aload_n 0, 1) := dk_42 (dk_at dksX3_addFiddler_1 4 rfl rfl)
theorem dX3_addFiddler_29 : decode cX3_addFiddler 29 = .ok (.getfield 22, 3) := dk_180 0 22 (dk_at dksX3_addFiddler_1 5 rfl rfl)
theorem dX3_addFiddler_32 : decode cX3_addFiddler 32 = .ok (.aload 5, 2) := dk_25 5 (dk_at dksX3_addFiddler_1 8 rfl rfl)
theorem dX3_addFiddler_34 : decode cX3_addFiddler 34 = .ok (.invokevirtual 104, 3) := dk_182 0 104 (dk_at dksX3_addFiddler_1 10 rfl rfl)
theorem dX3_addFiddler_37 : decode cX3_addFiddler 37 = .ok (.pop, 1) := dk_87 (dk_at dksX3_addFiddler_1 13 rfl rfl)
theorem dX3_addFiddler_38 : decode cX3_addFiddler 38 = .ok (.iconst 0, 1) := dk_3 (dk_at dksX3_addFiddler_1 14 rfl rfl)
theorem dX3_addFiddler_39 : decode cX3_addFiddler 39 = .ok (.istore 6, 2) := dk_54 6 (dk_at dksX3_addFiddler_1 15 rfl rfl)
theorem dX3_addFiddler_41 : decode cX3_addFiddler 41 = .ok (.iload 6, 2) := dk_21 6 (dk_at dksX3_addFiddler_1 17 rfl rfl)
theorem dX3_addFiddler_43 : decode cX3_addFiddler 43 = .ok (.iconst 4, 1) := dk_7 (dk_at dksX3_addFiddler_1 19 rfl rfl)
theorem dX3_addFiddler_44 : decode cX3_addFiddler 44 = .ok (.if_icmp .ge 51, 3) := dk_162 0 51 (dk_at dksX3_addFiddler_1 20 rfl rfl)
theorem dX3_addFiddler_47 : decode cX3_addFiddler 47 = .ok (.aload_n 0, 1) := dk_42 (dk_at dksX3_addFiddler_1 23 rfl rfl)
theorem dX3_addFiddler_48 : decode cX3_addFiddler 48 = .ok (.getfield 28, 3) := dk_180 0 28 (dk_at dksX3_addFiddler_2 0 rfl rfl)
theorem dX3_addFiddler_51 : decode cX3_addFiddler 51 = .ok (.new 127, 3) := dk_187 0 127 (dk_at dksX3_addFiddler_2 3 rfl rfl)
theorem dX3_addFiddler_54 : decode cX3_addFiddler 54 = .ok (.dup, 1) := dk_89 (dk_at dksX3_addFiddler_2 6 rfl rfl)
theorem dX3_addFiddler_55 : decode cX3_addFiddler 55 = .ok (.aload 5, 2) := dk_25 5 (dk_at dksX3_addFiddler_2 7 rfl rfl)
theorem dX3_addFiddler_57 : decode cX3_addFiddler 57 = .ok (.getfield 108, 3) := dk_180 0 108 (dk_at dksX3_addFiddler_2 9 rfl rfl)
theorem dX3_addFiddler_60 : decode cX3_addFiddler 60 = .ok (.iload 6, 2) := dk_21 6 (dk_at dksX3_addFiddler_2 12 rfl rfl)
theorem dX3_addFiddler_62 : decode cX3_addFiddler 62 = .ok (.invokespecial 158, 3) := dk_183 0 158 (dk_at dksX3_addFiddler_2 14 rfl rfl)
theorem dX3_addFiddler_65 : decode cX3_addFiddler 65 = .ok (.new 129, 3) := dk_187 0 129 (dk_at dksX3_addFiddler_2 17 rfl rfl)
theorem dX3_addFiddler_68 : decode cX3_addFiddler 68 = .ok (.dup, 1) := dk_89 (dk_at dksX3_addFiddler_2 20 rfl rfl)
theorem dX3_addFiddler_69 : decode cX3_addFiddler 69 = .ok (.aload_n 3, 1) := dk_45 (dk_at dksX3_addFiddler_2 21 rfl rfl)
theorem dX3_addFiddler_70 : decode cX3_addFiddler 70 = .ok (.iload 6, 2) := dk_21 6 (dk_at dksX3_addFiddler_2 22 rfl rfl)
theorem dX3_addFiddler_72 : decode cX3_addFiddler 72 = .ok (.iaload, 1) := dk_46 (dk_at dksX3_addFiddler_3 0 rfl rfl)
theorem dX3_addFiddler_73 : decode cX3_addFiddler 73 = .ok (.aload 4, 2) := dk_25 4 (dk_at dksX3_addFiddler_3 1 rfl rfl)
theorem dX3_addFiddler_75 : decode cX3_addFiddler 75 = .ok (.iload 6, 2) := dk_21 6 (dk_at dksX3_addFiddler_3 3 rfl rfl)
theorem dX3_addFiddler_77 : decode cX3_addFiddler 77 = .ok (.iaload, 1) := dk_46 (dk_at dksX3_addFiddler_3 5 rfl rfl)
theorem dX3_addFiddler_78 : decode cX3_addFiddler 78 = .ok (.invokespecial 187, 3) := dk_183 0 187 (dk_at dksX3_addFiddler_3 6 rfl rfl)
theorem dX3_addFiddler_81 : decode cX3_addFiddler 81 = .ok (.invokevirtual 137, 3) := dk_182 0 137 (dk_at dksX3_addFiddler_3 9 rfl rfl)
theorem dX3_addFiddler_84 : decode cX3_addFiddler 84 = .ok (.checkcast 129, 3) := dk_192 0 129 (dk_at dksX3_addFiddler_3 12 rfl rfl)
theorem dX3_addFiddler_87 : decode cX3_addFiddler 87 = .ok (.astore 7, 2) := dk_58 7 (dk_at dksX3_addFiddler_3 15 rfl rfl)
theorem dX3_addFiddler_89 : decode cX3_addFiddler 89 = .ok (.iinc 6 1, 3) := dk_132 6 1 (dk_at dksX3_addFiddler_3 17 rfl rfl)
theorem dX3_addFiddler_92 : decode cX3_addFiddler 92 = .ok (.goto (-51), 3) := dk_167 255 205 (dk_at dksX3_addFiddler_3 20 rfl rfl)
theorem dX3_addFiddler_95 : decode cX3_addFiddler 95 = .ok (.return_, 1) := dk_177 (dk_at dksX3_addFiddler_3 23 rfl rfl)
abbrev iX3_addFiddler : xM := (yX3_addFiddler, cX3_addFiddler, 8, none, [])
theorem mX3_addFiddler : xOkM iX3_addFiddler := ⟨by decide +kernel, by decide, q1238, q132⟩
abbrev cX3_find : ByteArray := prog_5_method_7_code
def yX3_find : MethodName := ⟨RX3, "find", "(Ljava/lang/String;)I"⟩
def dkwX3_find_1 : List UInt8 := [180, 0, 175, 43, 182, 0, 179, 153, 0, 5, 28, 172, 132, 2, 1, 167, 255, 219, 2, 172]
abbrev dktX3_find_1 : List UInt8 := dkwX3_find_1 ++ []
def dkwX3_find_0 : List UInt8 := [3, 61, 28, 42, 180, 0, 18, 182, 0, 146, 162, 0, 32, 42, 180, 0, 18, 28, 182, 0, 111, 192, 0, 99]
abbrev dktX3_find_0 : List UInt8 := dkwX3_find_0 ++ dktX3_find_1
theorem dksX3_find_0 : cX3_find.data.toList.drop 0 = dktX3_find_0 := by decide +kernel
theorem dksX3_find_1 : cX3_find.data.toList.drop 24 = dktX3_find_1 := dk_seg dksX3_find_0 24 rfl rfl
theorem dX3_find_0 : decode cX3_find 0 = .ok (.iconst 0, 1) := dk_3 (dk_at dksX3_find_0 0 rfl rfl)
theorem dX3_find_1 : decode cX3_find 1 = .ok (.istore_n 2, 1) := dk_61 (dk_at dksX3_find_0 1 rfl rfl)
theorem dX3_find_2 : decode cX3_find 2 = .ok (.iload_n 2, 1) := dk_28 (dk_at dksX3_find_0 2 rfl rfl)
theorem dX3_find_3 : decode cX3_find 3 = .ok (.aload_n 0, 1) := dk_42 (dk_at dksX3_find_0 3 rfl rfl)
theorem dX3_find_4 : decode cX3_find 4 = .ok (.getfield 18, 3) := dk_180 0 18 (dk_at dksX3_find_0 4 rfl rfl)
theorem dX3_find_7 : decode cX3_find 7 = .ok (.invokevirtual 146, 3) := dk_182 0 146 (dk_at dksX3_find_0 7 rfl rfl)
theorem dX3_find_10 : decode cX3_find 10 = .ok (.if_icmp .ge 32, 3) := dk_162 0 32 (dk_at dksX3_find_0 10 rfl rfl)
theorem dX3_find_13 : decode cX3_find 13 = .ok (.aload_n 0, 1) := dk_42 (dk_at dksX3_find_0 13 rfl rfl)
theorem dX3_find_14 : decode cX3_find 14 = .ok (.getfield 18, 3) := dk_180 0 18 (dk_at dksX3_find_0 14 rfl rfl)
theorem dX3_find_17 : decode cX3_find 17 = .ok (.iload_n 2, 1) := dk_28 (dk_at dksX3_find_0 17 rfl rfl)
theorem dX3_find_18 : decode cX3_find 18 = .ok (.invokevirtual 111, 3) := dk_182 0 111 (dk_at dksX3_find_0 18 rfl rfl)
theorem dX3_find_21 : decode cX3_find 21 = .ok (.checkcast 99, 3) := dk_192 0 99 (dk_at dksX3_find_0 21 rfl rfl)
theorem dX3_find_24 : decode cX3_find 24 = .ok (.getfield 175, 3) := dk_180 0 175 (dk_at dksX3_find_1 0 rfl rfl)
theorem dX3_find_27 : decode cX3_find 27 = .ok (.aload_n 1, 1) := dk_43 (dk_at dksX3_find_1 3 rfl rfl)
theorem dX3_find_28 : decode cX3_find 28 = .ok (.invokevirtual 179, 3) := dk_182 0 179 (dk_at dksX3_find_1 4 rfl rfl)
theorem dX3_find_31 : decode cX3_find 31 = .ok (.ifCond .eq 5, 3) := dk_153 0 5 (dk_at dksX3_find_1 7 rfl rfl)
theorem dX3_find_34 : decode cX3_find 34 = .ok (.iload_n 2, 1) := dk_28 (dk_at dksX3_find_1 10 rfl rfl)
theorem dX3_find_35 : decode cX3_find 35 = .ok (.ireturn, 1) := dk_172 (dk_at dksX3_find_1 11 rfl rfl)
theorem dX3_find_36 : decode cX3_find 36 = .ok (.iinc 2 1, 3) := dk_132 2 1 (dk_at dksX3_find_1 12 rfl rfl)
theorem dX3_find_39 : decode cX3_find 39 = .ok (.goto (-37), 3) := dk_167 255 219 (dk_at dksX3_find_1 15 rfl rfl)
theorem dX3_find_42 : decode cX3_find 42 = .ok (.iconst (-1), 1) := dk_2 (dk_at dksX3_find_1 18 rfl rfl)
theorem dX3_find_43 : decode cX3_find 43 = .ok (.ireturn, 1) := dk_172 (dk_at dksX3_find_1 19 rfl rfl)
abbrev iX3_find : xM := (yX3_find, cX3_find, 3, (some .int), [])
theorem mX3_find : xOkM iX3_find := ⟨by decide +kernel, by decide, q2133, q132⟩
abbrev cX3_copy : ByteArray := prog_5_method_3_code
def yX3_copy : MethodName := ⟨RX3, "copy", "()LFiddleRow$Hall;"⟩
def dkwX3_copy_0 : List UInt8 := [187, 0, 10, 89, 42, 183, 0, 143, 176]
abbrev dktX3_copy_0 : List UInt8 := dkwX3_copy_0 ++ []
theorem dksX3_copy_0 : cX3_copy.data.toList.drop 0 = dktX3_copy_0 := by decide +kernel
theorem dX3_copy_0 : decode cX3_copy 0 = .ok (.new 10, 3) := dk_187 0 10 (dk_at dksX3_copy_0 0 rfl rfl)
theorem dX3_copy_3 : decode cX3_copy 3 = .ok (.dup, 1) := dk_89 (dk_at dksX3_copy_0 3 rfl rfl)
theorem dX3_copy_4 : decode cX3_copy 4 = .ok (.aload_n 0, 1) := dk_42 (dk_at dksX3_copy_0 4 rfl rfl)
theorem dX3_copy_5 : decode cX3_copy 5 = .ok (.invokespecial 143, 3) := dk_183 0 143 (dk_at dksX3_copy_0 5 rfl rfl)
theorem dX3_copy_8 : decode cX3_copy 8 = .ok (.areturn, 1) := dk_176 (dk_at dksX3_copy_0 8 rfl rfl)
abbrev iX3_copy : xM := (yX3_copy, cX3_copy, 1, (some (.object "FiddleRow$Hall")), [])
theorem mX3_copy : xOkM iX3_copy := ⟨by decide +kernel, by decide, q2263, q132⟩
abbrev cX3_init_2 : ByteArray := prog_5_method_2_code
def yX3_init_2 : MethodName := ⟨RX3, "<init>", "(LFiddleRow$Hall;)V"⟩
def dkwX3_init_2_16 : List UInt8 := [45, 182, 0, 142, 54, 4, 167, 255, 227, 177]
abbrev dktX3_init_2_16 : List UInt8 := dkwX3_init_2_16 ++ []
def dkwX3_init_2_15 : List UInt8 := [77, 44, 185, 0, 89, 1, 0, 153, 0, 26, 44, 185, 0, 95, 1, 0, 192, 0, 127, 78, 42, 180, 0, 35]
abbrev dktX3_init_2_15 : List UInt8 := dkwX3_init_2_15 ++ dktX3_init_2_16
def dkwX3_init_2_14 : List UInt8 := [192, 0, 129, 183, 0, 134, 182, 0, 137, 192, 0, 129, 58, 4, 167, 255, 200, 43, 180, 0, 35, 182, 0, 141]
abbrev dktX3_init_2_14 : List UInt8 := dkwX3_init_2_14 ++ dktX3_init_2_15
def dkwX3_init_2_13 : List UInt8 := [78, 42, 180, 0, 28, 45, 185, 0, 124, 1, 0, 192, 0, 127, 187, 0, 129, 89, 45, 185, 0, 131, 1, 0]
abbrev dktX3_init_2_13 : List UInt8 := dkwX3_init_2_13 ++ dktX3_init_2_14
def dkwX3_init_2_12 : List UInt8 := [185, 0, 119, 1, 0, 77, 44, 185, 0, 89, 1, 0, 153, 0, 53, 44, 185, 0, 95, 1, 0, 192, 0, 122]
abbrev dktX3_init_2_12 : List UInt8 := dkwX3_init_2_12 ++ dktX3_init_2_13
def dkwX3_init_2_11 : List UInt8 := [180, 0, 108, 182, 0, 111, 192, 0, 99, 182, 0, 104, 87, 167, 255, 215, 43, 180, 0, 28, 182, 0, 115]
abbrev dktX3_init_2_11 : List UInt8 := dkwX3_init_2_11 ++ dktX3_init_2_12
def dkwX3_init_2_10 : List UInt8 := [153, 0, 38, 44, 185, 0, 95, 1, 0, 192, 0, 99, 78, 42, 180, 0, 22, 42, 180, 0, 18, 45]
abbrev dktX3_init_2_10 : List UInt8 := dkwX3_init_2_10 ++ dktX3_init_2_11
def dkwX3_init_2_9 : List UInt8 := [183, 0, 101, 182, 0, 104, 87, 167, 255, 221, 43, 180, 0, 22, 182, 0, 85, 77, 44, 185, 0, 89, 1, 0]
abbrev dktX3_init_2_9 : List UInt8 := dkwX3_init_2_9 ++ dktX3_init_2_10
def dkwX3_init_2_8 : List UInt8 := [153, 0, 32, 44, 185, 0, 95, 1, 0, 192, 0, 99, 78, 42, 180, 0, 18, 187, 0, 99, 89, 45]
abbrev dktX3_init_2_8 : List UInt8 := dkwX3_init_2_8 ++ dktX3_init_2_9
def dkwX3_init_2_7 : List UInt8 := [42, 180, 0, 9, 3, 7, 184, 0, 79, 43, 180, 0, 18, 182, 0, 85, 77, 44, 185, 0, 89, 1, 0]
abbrev dktX3_init_2_7 : List UInt8 := dkwX3_init_2_7 ++ dktX3_init_2_8
def dkwX3_init_2_6 : List UInt8 := [181, 0, 70, 42, 43, 180, 0, 73, 181, 0, 73, 42, 43, 180, 0, 76, 181, 0, 76, 43, 180, 0, 9, 3]
abbrev dktX3_init_2_6 : List UInt8 := dkwX3_init_2_6 ++ dktX3_init_2_7
def dkwX3_init_2_5 : List UInt8 := [181, 0, 61, 42, 43, 180, 0, 64, 181, 0, 64, 42, 43, 180, 0, 67, 181, 0, 67, 42, 43, 180, 0, 70]
abbrev dktX3_init_2_5 : List UInt8 := dkwX3_init_2_5 ++ dktX3_init_2_6
def dkwX3_init_2_4 : List UInt8 := [181, 0, 52, 42, 43, 180, 0, 55, 181, 0, 55, 42, 43, 180, 0, 58, 181, 0, 58, 42, 43, 180, 0, 61]
abbrev dktX3_init_2_4 : List UInt8 := dkwX3_init_2_4 ++ dktX3_init_2_5
def dkwX3_init_2_3 : List UInt8 := [181, 0, 43, 42, 43, 180, 0, 46, 181, 0, 46, 42, 43, 180, 0, 49, 181, 0, 49, 42, 43, 180, 0, 52]
abbrev dktX3_init_2_3 : List UInt8 := dkwX3_init_2_3 ++ dktX3_init_2_4
def dkwX3_init_2_2 : List UInt8 := [187, 0, 32, 89, 183, 0, 34, 181, 0, 35, 42, 43, 180, 0, 39, 181, 0, 39, 42, 43, 180, 0, 43]
abbrev dktX3_init_2_2 : List UInt8 := dkwX3_init_2_2 ++ dktX3_init_2_3
def dkwX3_init_2_1 : List UInt8 := [187, 0, 15, 89, 183, 0, 17, 181, 0, 22, 42, 187, 0, 25, 89, 183, 0, 27, 181, 0, 28, 42]
abbrev dktX3_init_2_1 : List UInt8 := dkwX3_init_2_1 ++ dktX3_init_2_2
def dkwX3_init_2_0 : List UInt8 := [42, 183, 0, 3, 42, 7, 188, 10, 181, 0, 9, 42, 187, 0, 15, 89, 183, 0, 17, 181, 0, 18, 42]
abbrev dktX3_init_2_0 : List UInt8 := dkwX3_init_2_0 ++ dktX3_init_2_1
theorem dksX3_init_2_0 : cX3_init_2.data.toList.drop 0 = dktX3_init_2_0 := by decide +kernel
theorem dksX3_init_2_1 : cX3_init_2.data.toList.drop 23 = dktX3_init_2_1 := dk_seg dksX3_init_2_0 23 rfl rfl
theorem dksX3_init_2_2 : cX3_init_2.data.toList.drop 45 = dktX3_init_2_2 := dk_seg dksX3_init_2_1 22 rfl rfl
theorem dksX3_init_2_3 : cX3_init_2.data.toList.drop 68 = dktX3_init_2_3 := dk_seg dksX3_init_2_2 23 rfl rfl
theorem dksX3_init_2_4 : cX3_init_2.data.toList.drop 92 = dktX3_init_2_4 := dk_seg dksX3_init_2_3 24 rfl rfl
theorem dksX3_init_2_5 : cX3_init_2.data.toList.drop 116 = dktX3_init_2_5 := dk_seg dksX3_init_2_4 24 rfl rfl
theorem dksX3_init_2_6 : cX3_init_2.data.toList.drop 140 = dktX3_init_2_6 := dk_seg dksX3_init_2_5 24 rfl rfl
theorem dksX3_init_2_7 : cX3_init_2.data.toList.drop 164 = dktX3_init_2_7 := dk_seg dksX3_init_2_6 24 rfl rfl
theorem dksX3_init_2_8 : cX3_init_2.data.toList.drop 187 = dktX3_init_2_8 := dk_seg dksX3_init_2_7 23 rfl rfl
theorem dksX3_init_2_9 : cX3_init_2.data.toList.drop 209 = dktX3_init_2_9 := dk_seg dksX3_init_2_8 22 rfl rfl
theorem dksX3_init_2_10 : cX3_init_2.data.toList.drop 233 = dktX3_init_2_10 := dk_seg dksX3_init_2_9 24 rfl rfl
theorem dksX3_init_2_11 : cX3_init_2.data.toList.drop 255 = dktX3_init_2_11 := dk_seg dksX3_init_2_10 22 rfl rfl
theorem dksX3_init_2_12 : cX3_init_2.data.toList.drop 278 = dktX3_init_2_12 := dk_seg dksX3_init_2_11 23 rfl rfl
theorem dksX3_init_2_13 : cX3_init_2.data.toList.drop 302 = dktX3_init_2_13 := dk_seg dksX3_init_2_12 24 rfl rfl
theorem dksX3_init_2_14 : cX3_init_2.data.toList.drop 326 = dktX3_init_2_14 := dk_seg dksX3_init_2_13 24 rfl rfl
theorem dksX3_init_2_15 : cX3_init_2.data.toList.drop 350 = dktX3_init_2_15 := dk_seg dksX3_init_2_14 24 rfl rfl
theorem dksX3_init_2_16 : cX3_init_2.data.toList.drop 374 = dktX3_init_2_16 := dk_seg dksX3_init_2_15 24 rfl rfl
theorem dX3_init_2_0 : decode cX3_init_2 0 = .ok (.aload_n 0, 1) := dk_42 (dk_at dksX3_init_2_0 0 rfl rfl)
theorem dX3_init_2_1 : decode cX3_init_2 1 = .ok (.invokespecial 3, 3) := dk_183 0 3 (dk_at dksX3_init_2_0 1 rfl rfl)
theorem dX3_init_2_4 : decode cX3_init_2 4 = .ok (.aload_n 0, 1) := dk_42 (dk_at dksX3_init_2_0 4 rfl rfl)
theorem dX3_init_2_5 : decode cX3_init_2 5 = .ok (.iconst 4, 1) := dk_7 (dk_at dksX3_init_2_0 5 rfl rfl)
theorem dX3_init_2_6 : decode cX3_init_2 6 = .ok (.newarray .int, 2) := dk_188_10 (dk_at dksX3_init_2_0 6 rfl rfl)
theorem dX3_init_2_8 : decode cX3_init_2 8 = .ok (.putfield 9, 3) := dk_181 0 9 (dk_at dksX3_init_2_0 8 rfl rfl)
theorem dX3_init_2_11 : decode cX3_init_2 11 = .ok (.aload_n 0, 1) := dk_42 (dk_at dksX3_init_2_0 11 rfl rfl)
theorem dX3_init_2_12 : decode cX3_init_2 12 = .ok (.new 15, 3) := dk_187 0 15 (dk_at dksX3_init_2_0 12 rfl rfl)
theorem dX3_init_2_15 : decode cX3_init_2 15 = .ok (.dup, 1) := dk_89 (dk_at dksX3_init_2_0 15 rfl rfl)
theorem dX3_init_2_16 : decode cX3_init_2 16 = .ok (.invokespecial 17, 3) := dk_183 0 17 (dk_at dksX3_init_2_0 16 rfl rfl)
theorem dX3_init_2_19 : decode cX3_init_2 19 = .ok (.putfield 18, 3) := dk_181 0 18 (dk_at dksX3_init_2_0 19 rfl rfl)
theorem dX3_init_2_22 : decode cX3_init_2 22 = .ok (.aload_n 0, 1) := dk_42 (dk_at dksX3_init_2_0 22 rfl rfl)
theorem dX3_init_2_23 : decode cX3_init_2 23 = .ok (.new 15, 3) := dk_187 0 15 (dk_at dksX3_init_2_1 0 rfl rfl)
theorem dX3_init_2_26 : decode cX3_init_2 26 = .ok (.dup, 1) := dk_89 (dk_at dksX3_init_2_1 3 rfl rfl)
theorem dX3_init_2_27 : decode cX3_init_2 27 = .ok (.invokespecial 17, 3) := dk_183 0 17 (dk_at dksX3_init_2_1 4 rfl rfl)
theorem dX3_init_2_30 : decode cX3_init_2 30 = .ok (.putfield 22, 3) := dk_181 0 22 (dk_at dksX3_init_2_1 7 rfl rfl)
theorem dX3_init_2_33 : decode cX3_init_2 33 = .ok (.aload_n 0, 1) := dk_42 (dk_at dksX3_init_2_1 10 rfl rfl)
theorem dX3_init_2_34 : decode cX3_init_2 34 = .ok (.new 25, 3) := dk_187 0 25 (dk_at dksX3_init_2_1 11 rfl rfl)
theorem dX3_init_2_37 : decode cX3_init_2 37 = .ok (.dup, 1) := dk_89 (dk_at dksX3_init_2_1 14 rfl rfl)
theorem dX3_init_2_38 : decode cX3_init_2 38 = .ok (.invokespecial 27, 3) := dk_183 0 27 (dk_at dksX3_init_2_1 15 rfl rfl)
theorem dX3_init_2_41 : decode cX3_init_2 41 = .ok (.putfield 28, 3) := dk_181 0 28 (dk_at dksX3_init_2_1 18 rfl rfl)
theorem dX3_init_2_44 : decode cX3_init_2 44 = .ok (.aload_n 0, 1) := dk_42 (dk_at dksX3_init_2_1 21 rfl rfl)
theorem dX3_init_2_45 : decode cX3_init_2 45 = .ok (.new 32, 3) := dk_187 0 32 (dk_at dksX3_init_2_2 0 rfl rfl)
theorem dX3_init_2_48 : decode cX3_init_2 48 = .ok (.dup, 1) := dk_89 (dk_at dksX3_init_2_2 3 rfl rfl)
theorem dX3_init_2_49 : decode cX3_init_2 49 = .ok (.invokespecial 34, 3) := dk_183 0 34 (dk_at dksX3_init_2_2 4 rfl rfl)
theorem dX3_init_2_52 : decode cX3_init_2 52 = .ok (.putfield 35, 3) := dk_181 0 35 (dk_at dksX3_init_2_2 7 rfl rfl)
theorem dX3_init_2_55 : decode cX3_init_2 55 = .ok (.aload_n 0, 1) := dk_42 (dk_at dksX3_init_2_2 10 rfl rfl)
theorem dX3_init_2_56 : decode cX3_init_2 56 = .ok (.aload_n 1, 1) := dk_43 (dk_at dksX3_init_2_2 11 rfl rfl)
theorem dX3_init_2_57 : decode cX3_init_2 57 = .ok (.getfield 39, 3) := dk_180 0 39 (dk_at dksX3_init_2_2 12 rfl rfl)
theorem dX3_init_2_60 : decode cX3_init_2 60 = .ok (.putfield 39, 3) := dk_181 0 39 (dk_at dksX3_init_2_2 15 rfl rfl)
theorem dX3_init_2_63 : decode cX3_init_2 63 = .ok (.aload_n 0, 1) := dk_42 (dk_at dksX3_init_2_2 18 rfl rfl)
theorem dX3_init_2_64 : decode cX3_init_2 64 = .ok (.aload_n 1, 1) := dk_43 (dk_at dksX3_init_2_2 19 rfl rfl)
theorem dX3_init_2_65 : decode cX3_init_2 65 = .ok (.getfield 43, 3) := dk_180 0 43 (dk_at dksX3_init_2_2 20 rfl rfl)
theorem dX3_init_2_68 : decode cX3_init_2 68 = .ok (.putfield 43, 3) := dk_181 0 43 (dk_at dksX3_init_2_3 0 rfl rfl)
theorem dX3_init_2_71 : decode cX3_init_2 71 = .ok (.aload_n 0, 1) := dk_42 (dk_at dksX3_init_2_3 3 rfl rfl)
theorem dX3_init_2_72 : decode cX3_init_2 72 = .ok (.aload_n 1, 1) := dk_43 (dk_at dksX3_init_2_3 4 rfl rfl)
theorem dX3_init_2_73 : decode cX3_init_2 73 = .ok (.getfield 46, 3) := dk_180 0 46 (dk_at dksX3_init_2_3 5 rfl rfl)
theorem dX3_init_2_76 : decode cX3_init_2 76 = .ok (.putfield 46, 3) := dk_181 0 46 (dk_at dksX3_init_2_3 8 rfl rfl)
theorem dX3_init_2_79 : decode cX3_init_2 79 = .ok (.aload_n 0, 1) := dk_42 (dk_at dksX3_init_2_3 11 rfl rfl)
theorem dX3_init_2_80 : decode cX3_init_2 80 = .ok (.aload_n 1, 1) := dk_43 (dk_at dksX3_init_2_3 12 rfl rfl)
theorem dX3_init_2_81 : decode cX3_init_2 81 = .ok (.getfield 49, 3) := dk_180 0 49 (dk_at dksX3_init_2_3 13 rfl rfl)
theorem dX3_init_2_84 : decode cX3_init_2 84 = .ok (.putfield 49, 3) := dk_181 0 49 (dk_at dksX3_init_2_3 16 rfl rfl)
theorem dX3_init_2_87 : decode cX3_init_2 87 = .ok (.aload_n 0, 1) := dk_42 (dk_at dksX3_init_2_3 19 rfl rfl)
theorem dX3_init_2_88 : decode cX3_init_2 88 = .ok (.aload_n 1, 1) := dk_43 (dk_at dksX3_init_2_3 20 rfl rfl)
theorem dX3_init_2_89 : decode cX3_init_2 89 = .ok (.getfield 52, 3) := dk_180 0 52 (dk_at dksX3_init_2_3 21 rfl rfl)
theorem dX3_init_2_92 : decode cX3_init_2 92 = .ok (.putfield 52, 3) := dk_181 0 52 (dk_at dksX3_init_2_4 0 rfl rfl)
theorem dX3_init_2_95 : decode cX3_init_2 95 = .ok (.aload_n 0, 1) := dk_42 (dk_at dksX3_init_2_4 3 rfl rfl)
theorem dX3_init_2_96 : decode cX3_init_2 96 = .ok (.aload_n 1, 1) := dk_43 (dk_at dksX3_init_2_4 4 rfl rfl)
theorem dX3_init_2_97 : decode cX3_init_2 97 = .ok (.getfield 55, 3) := dk_180 0 55 (dk_at dksX3_init_2_4 5 rfl rfl)
theorem dX3_init_2_100 : decode cX3_init_2 100 = .ok (.putfield 55, 3) := dk_181 0 55 (dk_at dksX3_init_2_4 8 rfl rfl)
theorem dX3_init_2_103 : decode cX3_init_2 103 = .ok (.aload_n 0, 1) := dk_42 (dk_at dksX3_init_2_4 11 rfl rfl)
theorem dX3_init_2_104 : decode cX3_init_2 104 = .ok (.aload_n 1, 1) := dk_43 (dk_at dksX3_init_2_4 12 rfl rfl)
theorem dX3_init_2_105 : decode cX3_init_2 105 = .ok (.getfield 58, 3) := dk_180 0 58 (dk_at dksX3_init_2_4 13 rfl rfl)
theorem dX3_init_2_108 : decode cX3_init_2 108 = .ok (.putfield 58, 3) := dk_181 0 58 (dk_at dksX3_init_2_4 16 rfl rfl)
theorem dX3_init_2_111 : decode cX3_init_2 111 = .ok (.aload_n 0, 1) := dk_42 (dk_at dksX3_init_2_4 19 rfl rfl)
theorem dX3_init_2_112 : decode cX3_init_2 112 = .ok (.aload_n 1, 1) := dk_43 (dk_at dksX3_init_2_4 20 rfl rfl)
theorem dX3_init_2_113 : decode cX3_init_2 113 = .ok (.getfield 61, 3) := dk_180 0 61 (dk_at dksX3_init_2_4 21 rfl rfl)
theorem dX3_init_2_116 : decode cX3_init_2 116 = .ok (.putfield 61, 3) := dk_181 0 61 (dk_at dksX3_init_2_5 0 rfl rfl)
theorem dX3_init_2_119 : decode cX3_init_2 119 = .ok (.aload_n 0, 1) := dk_42 (dk_at dksX3_init_2_5 3 rfl rfl)
theorem dX3_init_2_120 : decode cX3_init_2 120 = .ok (.aload_n 1, 1) := dk_43 (dk_at dksX3_init_2_5 4 rfl rfl)
theorem dX3_init_2_121 : decode cX3_init_2 121 = .ok (.getfield 64, 3) := dk_180 0 64 (dk_at dksX3_init_2_5 5 rfl rfl)
theorem dX3_init_2_124 : decode cX3_init_2 124 = .ok (.putfield 64, 3) := dk_181 0 64 (dk_at dksX3_init_2_5 8 rfl rfl)
theorem dX3_init_2_127 : decode cX3_init_2 127 = .ok (.aload_n 0, 1) := dk_42 (dk_at dksX3_init_2_5 11 rfl rfl)
theorem dX3_init_2_128 : decode cX3_init_2 128 = .ok (.aload_n 1, 1) := dk_43 (dk_at dksX3_init_2_5 12 rfl rfl)
theorem dX3_init_2_129 : decode cX3_init_2 129 = .ok (.getfield 67, 3) := dk_180 0 67 (dk_at dksX3_init_2_5 13 rfl rfl)
theorem dX3_init_2_132 : decode cX3_init_2 132 = .ok (.putfield 67, 3) := dk_181 0 67 (dk_at dksX3_init_2_5 16 rfl rfl)
theorem dX3_init_2_135 : decode cX3_init_2 135 = .ok (.aload_n 0, 1) := dk_42 (dk_at dksX3_init_2_5 19 rfl rfl)
theorem dX3_init_2_136 : decode cX3_init_2 136 = .ok (.aload_n 1, 1) := dk_43 (dk_at dksX3_init_2_5 20 rfl rfl)
theorem dX3_init_2_137 : decode cX3_init_2 137 = .ok (.getfield 70, 3) := dk_180 0 70 (dk_at dksX3_init_2_5 21 rfl rfl)
theorem dX3_init_2_140 : decode cX3_init_2 140 = .ok (.putfield 70, 3) := dk_181 0 70 (dk_at dksX3_init_2_6 0 rfl rfl)
theorem dX3_init_2_143 : decode cX3_init_2 143 = .ok (.aload_n 0, 1) := dk_42 (dk_at dksX3_init_2_6 3 rfl rfl)
theorem dX3_init_2_144 : decode cX3_init_2 144 = .ok (.aload_n 1, 1) := dk_43 (dk_at dksX3_init_2_6 4 rfl rfl)
theorem dX3_init_2_145 : decode cX3_init_2 145 = .ok (.getfield 73, 3) := dk_180 0 73 (dk_at dksX3_init_2_6 5 rfl rfl)
theorem dX3_init_2_148 : decode cX3_init_2 148 = .ok (.putfield 73, 3) := dk_181 0 73 (dk_at dksX3_init_2_6 8 rfl rfl)
theorem dX3_init_2_151 : decode cX3_init_2 151 = .ok (.aload_n 0, 1) := dk_42 (dk_at dksX3_init_2_6 11 rfl rfl)
theorem dX3_init_2_152 : decode cX3_init_2 152 = .ok (.aload_n 1, 1) := dk_43 (dk_at dksX3_init_2_6 12 rfl rfl)
theorem dX3_init_2_153 : decode cX3_init_2 153 = .ok (.getfield 76, 3) := dk_180 0 76 (dk_at dksX3_init_2_6 13 rfl rfl)
theorem dX3_init_2_156 : decode cX3_init_2 156 = .ok (.putfield 76, 3) := dk_181 0 76 (dk_at dksX3_init_2_6 16 rfl rfl)
theorem dX3_init_2_159 : decode cX3_init_2 159 = .ok (.aload_n 1, 1) := dk_43 (dk_at dksX3_init_2_6 19 rfl rfl)
theorem dX3_init_2_160 : decode cX3_init_2 160 = .ok (.getfield 9, 3) := dk_180 0 9 (dk_at dksX3_init_2_6 20 rfl rfl)
theorem dX3_init_2_163 : decode cX3_init_2 163 = .ok (.iconst 0, 1) := dk_3 (dk_at dksX3_init_2_6 23 rfl rfl)
theorem dX3_init_2_164 : decode cX3_init_2 164 = .ok (.aload_n 0, 1) := dk_42 (dk_at dksX3_init_2_7 0 rfl rfl)
theorem dX3_init_2_165 : decode cX3_init_2 165 = .ok (.getfield 9, 3) := dk_180 0 9 (dk_at dksX3_init_2_7 1 rfl rfl)
theorem dX3_init_2_168 : decode cX3_init_2 168 = .ok (.iconst 0, 1) := dk_3 (dk_at dksX3_init_2_7 4 rfl rfl)
theorem dX3_init_2_169 : decode cX3_init_2 169 = .ok (.iconst 4, 1) := dk_7 (dk_at dksX3_init_2_7 5 rfl rfl)
theorem dX3_init_2_170 : decode cX3_init_2 170 = .ok (.invokestatic 79, 3) := dk_184 0 79 (dk_at dksX3_init_2_7 6 rfl rfl)
theorem dX3_init_2_173 : decode cX3_init_2 173 = .ok (.aload_n 1, 1) := dk_43 (dk_at dksX3_init_2_7 9 rfl rfl)
theorem dX3_init_2_174 : decode cX3_init_2 174 = .ok (.getfield 18, 3) := dk_180 0 18 (dk_at dksX3_init_2_7 10 rfl rfl)
theorem dX3_init_2_177 : decode cX3_init_2 177 = .ok (.invokevirtual 85, 3) := dk_182 0 85 (dk_at dksX3_init_2_7 13 rfl rfl)
theorem dX3_init_2_180 : decode cX3_init_2 180 = .ok (.astore_n 2, 1) := dk_77 (dk_at dksX3_init_2_7 16 rfl rfl)
theorem dX3_init_2_181 : decode cX3_init_2 181 = .ok (.aload_n 2, 1) := dk_44 (dk_at dksX3_init_2_7 17 rfl rfl)
theorem dX3_init_2_182 : decode cX3_init_2 182 = .ok (.invokeinterface 89 1, 5) := by decide +kernel
theorem dX3_init_2_187 : decode cX3_init_2 187 = .ok (.ifCond .eq 32, 3) := dk_153 0 32 (dk_at dksX3_init_2_8 0 rfl rfl)
theorem dX3_init_2_190 : decode cX3_init_2 190 = .ok (.aload_n 2, 1) := dk_44 (dk_at dksX3_init_2_8 3 rfl rfl)
theorem dX3_init_2_191 : decode cX3_init_2 191 = .ok (.invokeinterface 95 1, 5) := by decide +kernel
theorem dX3_init_2_196 : decode cX3_init_2 196 = .ok (.checkcast 99, 3) := dk_192 0 99 (dk_at dksX3_init_2_8 9 rfl rfl)
theorem dX3_init_2_199 : decode cX3_init_2 199 = .ok (.astore_n 3, 1) := dk_78 (dk_at dksX3_init_2_8 12 rfl rfl)
theorem dX3_init_2_200 : decode cX3_init_2 200 = .ok (.aload_n 0, 1) := dk_42 (dk_at dksX3_init_2_8 13 rfl rfl)
theorem dX3_init_2_201 : decode cX3_init_2 201 = .ok (.getfield 18, 3) := dk_180 0 18 (dk_at dksX3_init_2_8 14 rfl rfl)
theorem dX3_init_2_204 : decode cX3_init_2 204 = .ok (.new 99, 3) := dk_187 0 99 (dk_at dksX3_init_2_8 17 rfl rfl)
theorem dX3_init_2_207 : decode cX3_init_2 207 = .ok (.dup, 1) := dk_89 (dk_at dksX3_init_2_8 20 rfl rfl)
theorem dX3_init_2_208 : decode cX3_init_2 208 = .ok (.aload_n 3, 1) := dk_45 (dk_at dksX3_init_2_8 21 rfl rfl)
theorem dX3_init_2_209 : decode cX3_init_2 209 = .ok (.invokespecial 101, 3) := dk_183 0 101 (dk_at dksX3_init_2_9 0 rfl rfl)
theorem dX3_init_2_212 : decode cX3_init_2 212 = .ok (.invokevirtual 104, 3) := dk_182 0 104 (dk_at dksX3_init_2_9 3 rfl rfl)
theorem dX3_init_2_215 : decode cX3_init_2 215 = .ok (.pop, 1) := dk_87 (dk_at dksX3_init_2_9 6 rfl rfl)
theorem dX3_init_2_216 : decode cX3_init_2 216 = .ok (.goto (-35), 3) := dk_167 255 221 (dk_at dksX3_init_2_9 7 rfl rfl)
theorem dX3_init_2_219 : decode cX3_init_2 219 = .ok (.aload_n 1, 1) := dk_43 (dk_at dksX3_init_2_9 10 rfl rfl)
theorem dX3_init_2_220 : decode cX3_init_2 220 = .ok (.getfield 22, 3) := dk_180 0 22 (dk_at dksX3_init_2_9 11 rfl rfl)
theorem dX3_init_2_223 : decode cX3_init_2 223 = .ok (.invokevirtual 85, 3) := dk_182 0 85 (dk_at dksX3_init_2_9 14 rfl rfl)
theorem dX3_init_2_226 : decode cX3_init_2 226 = .ok (.astore_n 2, 1) := dk_77 (dk_at dksX3_init_2_9 17 rfl rfl)
theorem dX3_init_2_227 : decode cX3_init_2 227 = .ok (.aload_n 2, 1) := dk_44 (dk_at dksX3_init_2_9 18 rfl rfl)
theorem dX3_init_2_228 : decode cX3_init_2 228 = .ok (.invokeinterface 89 1, 5) := by decide +kernel
theorem dX3_init_2_233 : decode cX3_init_2 233 = .ok (.ifCond .eq 38, 3) := dk_153 0 38 (dk_at dksX3_init_2_10 0 rfl rfl)
theorem dX3_init_2_236 : decode cX3_init_2 236 = .ok (.aload_n 2, 1) := dk_44 (dk_at dksX3_init_2_10 3 rfl rfl)
theorem dX3_init_2_237 : decode cX3_init_2 237 = .ok (.invokeinterface 95 1, 5) := by decide +kernel
theorem dX3_init_2_242 : decode cX3_init_2 242 = .ok (.checkcast 99, 3) := dk_192 0 99 (dk_at dksX3_init_2_10 9 rfl rfl)
theorem dX3_init_2_245 : decode cX3_init_2 245 = .ok (.astore_n 3, 1) := dk_78 (dk_at dksX3_init_2_10 12 rfl rfl)
theorem dX3_init_2_246 : decode cX3_init_2 246 = .ok (.aload_n 0, 1) := dk_42 (dk_at dksX3_init_2_10 13 rfl rfl)
theorem dX3_init_2_247 : decode cX3_init_2 247 = .ok (.getfield 22, 3) := dk_180 0 22 (dk_at dksX3_init_2_10 14 rfl rfl)
theorem dX3_init_2_250 : decode cX3_init_2 250 = .ok (.aload_n 0, 1) := dk_42 (dk_at dksX3_init_2_10 17 rfl rfl)
theorem dX3_init_2_251 : decode cX3_init_2 251 = .ok (.getfield 18, 3) := dk_180 0 18 (dk_at dksX3_init_2_10 18 rfl rfl)
theorem dX3_init_2_254 : decode cX3_init_2 254 = .ok (.aload_n 3, 1) := dk_45 (dk_at dksX3_init_2_10 21 rfl rfl)
theorem dX3_init_2_255 : decode cX3_init_2 255 = .ok (.getfield 108, 3) := dk_180 0 108 (dk_at dksX3_init_2_11 0 rfl rfl)
theorem dX3_init_2_258 : decode cX3_init_2 258 = .ok (.invokevirtual 111, 3) := dk_182 0 111 (dk_at dksX3_init_2_11 3 rfl rfl)
theorem dX3_init_2_261 : decode cX3_init_2 261 = .ok (.checkcast 99, 3) := dk_192 0 99 (dk_at dksX3_init_2_11 6 rfl rfl)
theorem dX3_init_2_264 : decode cX3_init_2 264 = .ok (.invokevirtual 104, 3) := dk_182 0 104 (dk_at dksX3_init_2_11 9 rfl rfl)
theorem dX3_init_2_267 : decode cX3_init_2 267 = .ok (.pop, 1) := dk_87 (dk_at dksX3_init_2_11 12 rfl rfl)
theorem dX3_init_2_268 : decode cX3_init_2 268 = .ok (.goto (-41), 3) := dk_167 255 215 (dk_at dksX3_init_2_11 13 rfl rfl)
theorem dX3_init_2_271 : decode cX3_init_2 271 = .ok (.aload_n 1, 1) := dk_43 (dk_at dksX3_init_2_11 16 rfl rfl)
theorem dX3_init_2_272 : decode cX3_init_2 272 = .ok (.getfield 28, 3) := dk_180 0 28 (dk_at dksX3_init_2_11 17 rfl rfl)
theorem dX3_init_2_275 : decode cX3_init_2 275 = .ok (.invokevirtual 115, 3) := dk_182 0 115 (dk_at dksX3_init_2_11 20 rfl rfl)
theorem dX3_init_2_278 : decode cX3_init_2 278 = .ok (.invokeinterface 119 1, 5) := by decide +kernel
theorem dX3_init_2_283 : decode cX3_init_2 283 = .ok (.astore_n 2, 1) := dk_77 (dk_at dksX3_init_2_12 5 rfl rfl)
theorem dX3_init_2_284 : decode cX3_init_2 284 = .ok (.aload_n 2, 1) := dk_44 (dk_at dksX3_init_2_12 6 rfl rfl)
theorem dX3_init_2_285 : decode cX3_init_2 285 = .ok (.invokeinterface 89 1, 5) := by decide +kernel
theorem dX3_init_2_290 : decode cX3_init_2 290 = .ok (.ifCond .eq 53, 3) := dk_153 0 53 (dk_at dksX3_init_2_12 12 rfl rfl)
theorem dX3_init_2_293 : decode cX3_init_2 293 = .ok (.aload_n 2, 1) := dk_44 (dk_at dksX3_init_2_12 15 rfl rfl)
theorem dX3_init_2_294 : decode cX3_init_2 294 = .ok (.invokeinterface 95 1, 5) := by decide +kernel
theorem dX3_init_2_299 : decode cX3_init_2 299 = .ok (.checkcast 122, 3) := dk_192 0 122 (dk_at dksX3_init_2_12 21 rfl rfl)
theorem dX3_init_2_302 : decode cX3_init_2 302 = .ok (.astore_n 3, 1) := dk_78 (dk_at dksX3_init_2_13 0 rfl rfl)
theorem dX3_init_2_303 : decode cX3_init_2 303 = .ok (.aload_n 0, 1) := dk_42 (dk_at dksX3_init_2_13 1 rfl rfl)
theorem dX3_init_2_304 : decode cX3_init_2 304 = .ok (.getfield 28, 3) := dk_180 0 28 (dk_at dksX3_init_2_13 2 rfl rfl)
theorem dX3_init_2_307 : decode cX3_init_2 307 = .ok (.aload_n 3, 1) := dk_45 (dk_at dksX3_init_2_13 5 rfl rfl)
theorem dX3_init_2_308 : decode cX3_init_2 308 = .ok (.invokeinterface 124 1, 5) := by decide +kernel
theorem dX3_init_2_313 : decode cX3_init_2 313 = .ok (.checkcast 127, 3) := dk_192 0 127 (dk_at dksX3_init_2_13 11 rfl rfl)
theorem dX3_init_2_316 : decode cX3_init_2 316 = .ok (.new 129, 3) := dk_187 0 129 (dk_at dksX3_init_2_13 14 rfl rfl)
theorem dX3_init_2_319 : decode cX3_init_2 319 = .ok (.dup, 1) := dk_89 (dk_at dksX3_init_2_13 17 rfl rfl)
theorem dX3_init_2_320 : decode cX3_init_2 320 = .ok (.aload_n 3, 1) := dk_45 (dk_at dksX3_init_2_13 18 rfl rfl)
theorem dX3_init_2_321 : decode cX3_init_2 321 = .ok (.invokeinterface 131 1, 5) := by decide +kernel
theorem dX3_init_2_326 : decode cX3_init_2 326 = .ok (.checkcast 129, 3) := dk_192 0 129 (dk_at dksX3_init_2_14 0 rfl rfl)
theorem dX3_init_2_329 : decode cX3_init_2 329 = .ok (.invokespecial 134, 3) := dk_183 0 134 (dk_at dksX3_init_2_14 3 rfl rfl)
theorem dX3_init_2_332 : decode cX3_init_2 332 = .ok (.invokevirtual 137, 3) := dk_182 0 137 (dk_at dksX3_init_2_14 6 rfl rfl)
theorem dX3_init_2_335 : decode cX3_init_2 335 = .ok (.checkcast 129, 3) := dk_192 0 129 (dk_at dksX3_init_2_14 9 rfl rfl)
theorem dX3_init_2_338 : decode cX3_init_2 338 = .ok (.astore 4, 2) := dk_58 4 (dk_at dksX3_init_2_14 12 rfl rfl)
theorem dX3_init_2_340 : decode cX3_init_2 340 = .ok (.goto (-56), 3) := dk_167 255 200 (dk_at dksX3_init_2_14 14 rfl rfl)
theorem dX3_init_2_343 : decode cX3_init_2 343 = .ok (.aload_n 1, 1) := dk_43 (dk_at dksX3_init_2_14 17 rfl rfl)
theorem dX3_init_2_344 : decode cX3_init_2 344 = .ok (.getfield 35, 3) := dk_180 0 35 (dk_at dksX3_init_2_14 18 rfl rfl)
theorem dX3_init_2_347 : decode cX3_init_2 347 = .ok (.invokevirtual 141, 3) := dk_182 0 141 (dk_at dksX3_init_2_14 21 rfl rfl)
theorem dX3_init_2_350 : decode cX3_init_2 350 = .ok (.astore_n 2, 1) := dk_77 (dk_at dksX3_init_2_15 0 rfl rfl)
theorem dX3_init_2_351 : decode cX3_init_2 351 = .ok (.aload_n 2, 1) := dk_44 (dk_at dksX3_init_2_15 1 rfl rfl)
theorem dX3_init_2_352 : decode cX3_init_2 352 = .ok (.invokeinterface 89 1, 5) := by decide +kernel
theorem dX3_init_2_357 : decode cX3_init_2 357 = .ok (.ifCond .eq 26, 3) := dk_153 0 26 (dk_at dksX3_init_2_15 7 rfl rfl)
theorem dX3_init_2_360 : decode cX3_init_2 360 = .ok (.aload_n 2, 1) := dk_44 (dk_at dksX3_init_2_15 10 rfl rfl)
theorem dX3_init_2_361 : decode cX3_init_2 361 = .ok (.invokeinterface 95 1, 5) := by decide +kernel
theorem dX3_init_2_366 : decode cX3_init_2 366 = .ok (.checkcast 127, 3) := dk_192 0 127 (dk_at dksX3_init_2_15 16 rfl rfl)
theorem dX3_init_2_369 : decode cX3_init_2 369 = .ok (.astore_n 3, 1) := dk_78 (dk_at dksX3_init_2_15 19 rfl rfl)
theorem dX3_init_2_370 : decode cX3_init_2 370 = .ok (.aload_n 0, 1) := dk_42 (dk_at dksX3_init_2_15 20 rfl rfl)
theorem dX3_init_2_371 : decode cX3_init_2 371 = .ok (.getfield 35, 3) := dk_180 0 35 (dk_at dksX3_init_2_15 21 rfl rfl)
theorem dX3_init_2_374 : decode cX3_init_2 374 = .ok (.aload_n 3, 1) := dk_45 (dk_at dksX3_init_2_16 0 rfl rfl)
theorem dX3_init_2_375 : decode cX3_init_2 375 = .ok (.invokevirtual 142, 3) := dk_182 0 142 (dk_at dksX3_init_2_16 1 rfl rfl)
theorem dX3_init_2_378 : decode cX3_init_2 378 = .ok (.istore 4, 2) := dk_54 4 (dk_at dksX3_init_2_16 4 rfl rfl)
theorem dX3_init_2_380 : decode cX3_init_2 380 = .ok (.goto (-29), 3) := dk_167 255 227 (dk_at dksX3_init_2_16 6 rfl rfl)
theorem dX3_init_2_383 : decode cX3_init_2 383 = .ok (.return_, 1) := dk_177 (dk_at dksX3_init_2_16 9 rfl rfl)
abbrev iX3_init_2 : xM := (yX3_init_2, cX3_init_2, 5, none, [])
theorem mX3_init_2 : xOkM iX3_init_2 := ⟨by decide +kernel, by decide, q2267, q132⟩
abbrev cX3_tuneRow : ByteArray := prog_5_method_10_code
def yX3_tuneRow : MethodName := ⟨RX3, "tuneRow", "()I"⟩
def dkwX3_tuneRow_4 : List UInt8 := [167, 0, 9, 25, 4, 76, 132, 2, 1, 132, 3, 1, 167, 255, 205, 28, 172]
abbrev dktX3_tuneRow_4 : List UInt8 := dkwX3_tuneRow_4 ++ []
def dkwX3_tuneRow_3 : List UInt8 := [29, 182, 0, 111, 192, 0, 99, 58, 4, 42, 25, 4, 43, 182, 0, 194, 25, 4, 182, 0, 198, 154, 0, 6]
abbrev dktX3_tuneRow_3 : List UInt8 := dkwX3_tuneRow_3 ++ dktX3_tuneRow_4
def dkwX3_tuneRow_2 : List UInt8 := [167, 255, 228, 1, 76, 3, 61, 3, 62, 29, 42, 180, 0, 22, 182, 0, 146, 162, 0, 46, 42, 180, 0, 22]
abbrev dktX3_tuneRow_2 : List UInt8 := dkwX3_tuneRow_2 ++ dktX3_tuneRow_3
def dkwX3_tuneRow_1 : List UInt8 := [182, 0, 146, 162, 0, 23, 42, 180, 0, 18, 27, 182, 0, 111, 192, 0, 99, 182, 0, 191, 132, 1, 1]
abbrev dktX3_tuneRow_1 : List UInt8 := dkwX3_tuneRow_1 ++ dktX3_tuneRow_2
def dkwX3_tuneRow_0 : List UInt8 := [42, 89, 180, 0, 61, 4, 96, 181, 0, 61, 42, 180, 0, 35, 182, 0, 188, 3, 60, 27, 42, 180, 0, 18]
abbrev dktX3_tuneRow_0 : List UInt8 := dkwX3_tuneRow_0 ++ dktX3_tuneRow_1
theorem dksX3_tuneRow_0 : cX3_tuneRow.data.toList.drop 0 = dktX3_tuneRow_0 := by decide +kernel
theorem dksX3_tuneRow_1 : cX3_tuneRow.data.toList.drop 24 = dktX3_tuneRow_1 := dk_seg dksX3_tuneRow_0 24 rfl rfl
theorem dksX3_tuneRow_2 : cX3_tuneRow.data.toList.drop 47 = dktX3_tuneRow_2 := dk_seg dksX3_tuneRow_1 23 rfl rfl
theorem dksX3_tuneRow_3 : cX3_tuneRow.data.toList.drop 71 = dktX3_tuneRow_3 := dk_seg dksX3_tuneRow_2 24 rfl rfl
theorem dksX3_tuneRow_4 : cX3_tuneRow.data.toList.drop 95 = dktX3_tuneRow_4 := dk_seg dksX3_tuneRow_3 24 rfl rfl
theorem dX3_tuneRow_0 : decode cX3_tuneRow 0 = .ok (.aload_n 0, 1) := dk_42 (dk_at dksX3_tuneRow_0 0 rfl rfl)
theorem dX3_tuneRow_1 : decode cX3_tuneRow 1 = .ok (.dup, 1) := dk_89 (dk_at dksX3_tuneRow_0 1 rfl rfl)
theorem dX3_tuneRow_2 : decode cX3_tuneRow 2 = .ok (.getfield 61, 3) := dk_180 0 61 (dk_at dksX3_tuneRow_0 2 rfl rfl)
theorem dX3_tuneRow_5 : decode cX3_tuneRow 5 = .ok (.iconst 1, 1) := dk_4 (dk_at dksX3_tuneRow_0 5 rfl rfl)
theorem dX3_tuneRow_6 : decode cX3_tuneRow 6 = .ok (.iadd, 1) := dk_96 (dk_at dksX3_tuneRow_0 6 rfl rfl)
theorem dX3_tuneRow_7 : decode cX3_tuneRow 7 = .ok (.putfield 61, 3) := dk_181 0 61 (dk_at dksX3_tuneRow_0 7 rfl rfl)
theorem dX3_tuneRow_10 : decode cX3_tuneRow 10 = .ok (.aload_n 0, 1) := dk_42 (dk_at dksX3_tuneRow_0 10 rfl rfl)
theorem dX3_tuneRow_11 : decode cX3_tuneRow 11 = .ok (.getfield 35, 3) := dk_180 0 35 (dk_at dksX3_tuneRow_0 11 rfl rfl)
theorem dX3_tuneRow_14 : decode cX3_tuneRow 14 = .ok (.invokevirtual 188, 3) := dk_182 0 188 (dk_at dksX3_tuneRow_0 14 rfl rfl)
theorem dX3_tuneRow_17 : decode cX3_tuneRow 17 = .ok (.iconst 0, 1) := dk_3 (dk_at dksX3_tuneRow_0 17 rfl rfl)
theorem dX3_tuneRow_18 : decode cX3_tuneRow 18 = .ok (.istore_n 1, 1) := dk_60 (dk_at dksX3_tuneRow_0 18 rfl rfl)
theorem dX3_tuneRow_19 : decode cX3_tuneRow 19 = .ok (.iload_n 1, 1) := dk_27 (dk_at dksX3_tuneRow_0 19 rfl rfl)
theorem dX3_tuneRow_20 : decode cX3_tuneRow 20 = .ok (.aload_n 0, 1) := dk_42 (dk_at dksX3_tuneRow_0 20 rfl rfl)
theorem dX3_tuneRow_21 : decode cX3_tuneRow 21 = .ok (.getfield 18, 3) := dk_180 0 18 (dk_at dksX3_tuneRow_0 21 rfl rfl)
theorem dX3_tuneRow_24 : decode cX3_tuneRow 24 = .ok (.invokevirtual 146, 3) := dk_182 0 146 (dk_at dksX3_tuneRow_1 0 rfl rfl)
theorem dX3_tuneRow_27 : decode cX3_tuneRow 27 = .ok (.if_icmp .ge 23, 3) := dk_162 0 23 (dk_at dksX3_tuneRow_1 3 rfl rfl)
theorem dX3_tuneRow_30 : decode cX3_tuneRow 30 = .ok (.aload_n 0, 1) := dk_42 (dk_at dksX3_tuneRow_1 6 rfl rfl)
theorem dX3_tuneRow_31 : decode cX3_tuneRow 31 = .ok (.getfield 18, 3) := dk_180 0 18 (dk_at dksX3_tuneRow_1 7 rfl rfl)
theorem dX3_tuneRow_34 : decode cX3_tuneRow 34 = .ok (.iload_n 1, 1) := dk_27 (dk_at dksX3_tuneRow_1 10 rfl rfl)
theorem dX3_tuneRow_35 : decode cX3_tuneRow 35 = .ok (.invokevirtual 111, 3) := dk_182 0 111 (dk_at dksX3_tuneRow_1 11 rfl rfl)
theorem dX3_tuneRow_38 : decode cX3_tuneRow 38 = .ok (.checkcast 99, 3) := dk_192 0 99 (dk_at dksX3_tuneRow_1 14 rfl rfl)
theorem dX3_tuneRow_41 : decode cX3_tuneRow 41 = .ok (.invokevirtual 191, 3) := dk_182 0 191 (dk_at dksX3_tuneRow_1 17 rfl rfl)
theorem dX3_tuneRow_44 : decode cX3_tuneRow 44 = .ok (.iinc 1 1, 3) := dk_132 1 1 (dk_at dksX3_tuneRow_1 20 rfl rfl)
theorem dX3_tuneRow_47 : decode cX3_tuneRow 47 = .ok (.goto (-28), 3) := dk_167 255 228 (dk_at dksX3_tuneRow_2 0 rfl rfl)
theorem dX3_tuneRow_50 : decode cX3_tuneRow 50 = .ok (.aconst_null, 1) := dk_1 (dk_at dksX3_tuneRow_2 3 rfl rfl)
theorem dX3_tuneRow_51 : decode cX3_tuneRow 51 = .ok (.astore_n 1, 1) := dk_76 (dk_at dksX3_tuneRow_2 4 rfl rfl)
theorem dX3_tuneRow_52 : decode cX3_tuneRow 52 = .ok (.iconst 0, 1) := dk_3 (dk_at dksX3_tuneRow_2 5 rfl rfl)
theorem dX3_tuneRow_53 : decode cX3_tuneRow 53 = .ok (.istore_n 2, 1) := dk_61 (dk_at dksX3_tuneRow_2 6 rfl rfl)
theorem dX3_tuneRow_54 : decode cX3_tuneRow 54 = .ok (.iconst 0, 1) := dk_3 (dk_at dksX3_tuneRow_2 7 rfl rfl)
theorem dX3_tuneRow_55 : decode cX3_tuneRow 55 = .ok (.istore_n 3, 1) := dk_62 (dk_at dksX3_tuneRow_2 8 rfl rfl)
theorem dX3_tuneRow_56 : decode cX3_tuneRow 56 = .ok (.iload_n 3, 1) := dk_29 (dk_at dksX3_tuneRow_2 9 rfl rfl)
theorem dX3_tuneRow_57 : decode cX3_tuneRow 57 = .ok (.aload_n 0, 1) := dk_42 (dk_at dksX3_tuneRow_2 10 rfl rfl)
theorem dX3_tuneRow_58 : decode cX3_tuneRow 58 = .ok (.getfield 22, 3) := dk_180 0 22 (dk_at dksX3_tuneRow_2 11 rfl rfl)
theorem dX3_tuneRow_61 : decode cX3_tuneRow 61 = .ok (.invokevirtual 146, 3) := dk_182 0 146 (dk_at dksX3_tuneRow_2 14 rfl rfl)
theorem dX3_tuneRow_64 : decode cX3_tuneRow 64 = .ok (.if_icmp .ge 46, 3) := dk_162 0 46 (dk_at dksX3_tuneRow_2 17 rfl rfl)
theorem dX3_tuneRow_67 : decode cX3_tuneRow 67 = .ok (.aload_n 0, 1) := dk_42 (dk_at dksX3_tuneRow_2 20 rfl rfl)
theorem dX3_tuneRow_68 : decode cX3_tuneRow 68 = .ok (.getfield 22, 3) := dk_180 0 22 (dk_at dksX3_tuneRow_2 21 rfl rfl)
theorem dX3_tuneRow_71 : decode cX3_tuneRow 71 = .ok (.iload_n 3, 1) := dk_29 (dk_at dksX3_tuneRow_3 0 rfl rfl)
theorem dX3_tuneRow_72 : decode cX3_tuneRow 72 = .ok (.invokevirtual 111, 3) := dk_182 0 111 (dk_at dksX3_tuneRow_3 1 rfl rfl)
theorem dX3_tuneRow_75 : decode cX3_tuneRow 75 = .ok (.checkcast 99, 3) := dk_192 0 99 (dk_at dksX3_tuneRow_3 4 rfl rfl)
theorem dX3_tuneRow_78 : decode cX3_tuneRow 78 = .ok (.astore 4, 2) := dk_58 4 (dk_at dksX3_tuneRow_3 7 rfl rfl)
theorem dX3_tuneRow_80 : decode cX3_tuneRow 80 = .ok (.aload_n 0, 1) := dk_42 (dk_at dksX3_tuneRow_3 9 rfl rfl)
theorem dX3_tuneRow_81 : decode cX3_tuneRow 81 = .ok (.aload 4, 2) := dk_25 4 (dk_at dksX3_tuneRow_3 10 rfl rfl)
theorem dX3_tuneRow_83 : decode cX3_tuneRow 83 = .ok (.aload_n 1, 1) := dk_43 (dk_at dksX3_tuneRow_3 12 rfl rfl)
theorem dX3_tuneRow_84 : decode cX3_tuneRow 84 = .ok (.invokevirtual 194, 3) := dk_182 0 194 (dk_at dksX3_tuneRow_3 13 rfl rfl)
theorem dX3_tuneRow_87 : decode cX3_tuneRow 87 = .ok (.aload 4, 2) := dk_25 4 (dk_at dksX3_tuneRow_3 16 rfl rfl)
theorem dX3_tuneRow_89 : decode cX3_tuneRow 89 = .ok (.invokevirtual 198, 3) := dk_182 0 198 (dk_at dksX3_tuneRow_3 18 rfl rfl)
theorem dX3_tuneRow_92 : decode cX3_tuneRow 92 = .ok (.ifCond .ne 6, 3) := dk_154 0 6 (dk_at dksX3_tuneRow_3 21 rfl rfl)
theorem dX3_tuneRow_95 : decode cX3_tuneRow 95 = .ok (.goto 9, 3) := dk_167 0 9 (dk_at dksX3_tuneRow_4 0 rfl rfl)
theorem dX3_tuneRow_98 : decode cX3_tuneRow 98 = .ok (.aload 4, 2) := dk_25 4 (dk_at dksX3_tuneRow_4 3 rfl rfl)
theorem dX3_tuneRow_100 : decode cX3_tuneRow 100 = .ok (.astore_n 1, 1) := dk_76 (dk_at dksX3_tuneRow_4 5 rfl rfl)
theorem dX3_tuneRow_101 : decode cX3_tuneRow 101 = .ok (.iinc 2 1, 3) := dk_132 2 1 (dk_at dksX3_tuneRow_4 6 rfl rfl)
theorem dX3_tuneRow_104 : decode cX3_tuneRow 104 = .ok (.iinc 3 1, 3) := dk_132 3 1 (dk_at dksX3_tuneRow_4 9 rfl rfl)
theorem dX3_tuneRow_107 : decode cX3_tuneRow 107 = .ok (.goto (-51), 3) := dk_167 255 205 (dk_at dksX3_tuneRow_4 12 rfl rfl)
theorem dX3_tuneRow_110 : decode cX3_tuneRow 110 = .ok (.iload_n 2, 1) := dk_28 (dk_at dksX3_tuneRow_4 15 rfl rfl)
theorem dX3_tuneRow_111 : decode cX3_tuneRow 111 = .ok (.ireturn, 1) := dk_172 (dk_at dksX3_tuneRow_4 16 rfl rfl)
abbrev iX3_tuneRow : xM := (yX3_tuneRow, cX3_tuneRow, 5, (some .int), [])
theorem mX3_tuneRow : xOkM iX3_tuneRow := ⟨by decide +kernel, by decide, q2643, q132⟩
abbrev cX3_tune : ByteArray := prog_5_method_11_code
def yX3_tune : MethodName := ⟨RX3, "tune", "(LFiddleRow$Fiddler;LFiddleRow$Fiddler;)V"⟩
def dkwX3_tune_5 : List UInt8 := [180, 0, 217, 4, 96, 181, 0, 217, 177]
abbrev dktX3_tune_5 : List UInt8 := dkwX3_tune_5 ++ []
def dkwX3_tune_4 : List UInt8 := [132, 4, 1, 167, 255, 188, 43, 180, 0, 204, 154, 0, 21, 43, 44, 199, 0, 7, 4, 167, 0, 9, 44]
abbrev dktX3_tune_4 : List UInt8 := dkwX3_tune_4 ++ dktX3_tune_5
def dkwX3_tune_3 : List UInt8 := [4, 167, 0, 4, 3, 182, 0, 213, 54, 6, 43, 180, 0, 204, 154, 0, 9, 43, 21, 6, 181, 0, 204]
abbrev dktX3_tune_3 : List UInt8 := dkwX3_tune_3 ++ dktX3_tune_4
def dkwX3_tune_2 : List UInt8 := [21, 4, 46, 54, 5, 42, 43, 21, 4, 21, 5, 42, 180, 0, 64, 29, 100, 43, 180, 0, 210, 162, 0, 7]
abbrev dktX3_tune_2 : List UInt8 := dkwX3_tune_2 ++ dktX3_tune_3
def dkwX3_tune_1 : List UInt8 := [181, 0, 204, 3, 54, 4, 21, 4, 7, 162, 0, 68, 44, 199, 0, 7, 3, 167, 0, 10, 44, 180, 0, 207]
abbrev dktX3_tune_1 : List UInt8 := dkwX3_tune_1 ++ dktX3_tune_2
def dkwX3_tune_0 : List UInt8 := [42, 180, 0, 64, 62, 43, 44, 199, 0, 8, 16, 254, 167, 0, 7, 44, 180, 0, 108, 181, 0, 201, 43, 3]
abbrev dktX3_tune_0 : List UInt8 := dkwX3_tune_0 ++ dktX3_tune_1
theorem dksX3_tune_0 : cX3_tune.data.toList.drop 0 = dktX3_tune_0 := by decide +kernel
theorem dksX3_tune_1 : cX3_tune.data.toList.drop 24 = dktX3_tune_1 := dk_seg dksX3_tune_0 24 rfl rfl
theorem dksX3_tune_2 : cX3_tune.data.toList.drop 48 = dktX3_tune_2 := dk_seg dksX3_tune_1 24 rfl rfl
theorem dksX3_tune_3 : cX3_tune.data.toList.drop 72 = dktX3_tune_3 := dk_seg dksX3_tune_2 24 rfl rfl
theorem dksX3_tune_4 : cX3_tune.data.toList.drop 95 = dktX3_tune_4 := dk_seg dksX3_tune_3 23 rfl rfl
theorem dksX3_tune_5 : cX3_tune.data.toList.drop 118 = dktX3_tune_5 := dk_seg dksX3_tune_4 23 rfl rfl
theorem dX3_tune_0 : decode cX3_tune 0 = .ok (.aload_n 0, 1) := dk_42 (dk_at dksX3_tune_0 0 rfl rfl)
theorem dX3_tune_1 : decode cX3_tune 1 = .ok (.getfield 64, 3) := dk_180 0 64 (dk_at dksX3_tune_0 1 rfl rfl)
theorem dX3_tune_4 : decode cX3_tune 4 = .ok (.istore_n 3, 1) := dk_62 (dk_at dksX3_tune_0 4 rfl rfl)
theorem dX3_tune_5 : decode cX3_tune 5 = .ok (.aload_n 1, 1) := dk_43 (dk_at dksX3_tune_0 5 rfl rfl)
theorem dX3_tune_6 : decode cX3_tune 6 = .ok (.aload_n 2, 1) := dk_44 (dk_at dksX3_tune_0 6 rfl rfl)
theorem dX3_tune_7 : decode cX3_tune 7 = .ok (.ifnonnull 8, 3) := dk_199 0 8 (dk_at dksX3_tune_0 7 rfl rfl)
theorem dX3_tune_10 : decode cX3_tune 10 = .ok (.bipush (-2), 2) := dk_16 254 (dk_at dksX3_tune_0 10 rfl rfl)
theorem dX3_tune_12 : decode cX3_tune 12 = .ok (.goto 7, 3) := dk_167 0 7 (dk_at dksX3_tune_0 12 rfl rfl)
theorem dX3_tune_15 : decode cX3_tune 15 = .ok (.aload_n 2, 1) := dk_44 (dk_at dksX3_tune_0 15 rfl rfl)
theorem dX3_tune_16 : decode cX3_tune 16 = .ok (.getfield 108, 3) := dk_180 0 108 (dk_at dksX3_tune_0 16 rfl rfl)
theorem dX3_tune_19 : decode cX3_tune 19 = .ok (.putfield 201, 3) := dk_181 0 201 (dk_at dksX3_tune_0 19 rfl rfl)
theorem dX3_tune_22 : decode cX3_tune 22 = .ok (.aload_n 1, 1) := dk_43 (dk_at dksX3_tune_0 22 rfl rfl)
theorem dX3_tune_23 : decode cX3_tune 23 = .ok (.iconst 0, 1) := dk_3 (dk_at dksX3_tune_0 23 rfl rfl)
theorem dX3_tune_24 : decode cX3_tune 24 = .ok (.putfield 204, 3) := dk_181 0 204 (dk_at dksX3_tune_1 0 rfl rfl)
theorem dX3_tune_27 : decode cX3_tune 27 = .ok (.iconst 0, 1) := dk_3 (dk_at dksX3_tune_1 3 rfl rfl)
theorem dX3_tune_28 : decode cX3_tune 28 = .ok (.istore 4, 2) := dk_54 4 (dk_at dksX3_tune_1 4 rfl rfl)
theorem dX3_tune_30 : decode cX3_tune 30 = .ok (.iload 4, 2) := dk_21 4 (dk_at dksX3_tune_1 6 rfl rfl)
theorem dX3_tune_32 : decode cX3_tune 32 = .ok (.iconst 4, 1) := dk_7 (dk_at dksX3_tune_1 8 rfl rfl)
theorem dX3_tune_33 : decode cX3_tune 33 = .ok (.if_icmp .ge 68, 3) := dk_162 0 68 (dk_at dksX3_tune_1 9 rfl rfl)
theorem dX3_tune_36 : decode cX3_tune 36 = .ok (.aload_n 2, 1) := dk_44 (dk_at dksX3_tune_1 12 rfl rfl)
theorem dX3_tune_37 : decode cX3_tune 37 = .ok (.ifnonnull 7, 3) := dk_199 0 7 (dk_at dksX3_tune_1 13 rfl rfl)
theorem dX3_tune_40 : decode cX3_tune 40 = .ok (.iconst 0, 1) := dk_3 (dk_at dksX3_tune_1 16 rfl rfl)
theorem dX3_tune_41 : decode cX3_tune 41 = .ok (.goto 10, 3) := dk_167 0 10 (dk_at dksX3_tune_1 17 rfl rfl)
theorem dX3_tune_44 : decode cX3_tune 44 = .ok (.aload_n 2, 1) := dk_44 (dk_at dksX3_tune_1 20 rfl rfl)
theorem dX3_tune_45 : decode cX3_tune 45 = .ok (.getfield 207, 3) := dk_180 0 207 (dk_at dksX3_tune_1 21 rfl rfl)
theorem dX3_tune_48 : decode cX3_tune 48 = .ok (.iload 4, 2) := dk_21 4 (dk_at dksX3_tune_2 0 rfl rfl)
theorem dX3_tune_50 : decode cX3_tune 50 = .ok (.iaload, 1) := dk_46 (dk_at dksX3_tune_2 2 rfl rfl)
theorem dX3_tune_51 : decode cX3_tune 51 = .ok (.istore 5, 2) := dk_54 5 (dk_at dksX3_tune_2 3 rfl rfl)
theorem dX3_tune_53 : decode cX3_tune 53 = .ok (.aload_n 0, 1) := dk_42 (dk_at dksX3_tune_2 5 rfl rfl)
theorem dX3_tune_54 : decode cX3_tune 54 = .ok (.aload_n 1, 1) := dk_43 (dk_at dksX3_tune_2 6 rfl rfl)
theorem dX3_tune_55 : decode cX3_tune 55 = .ok (.iload 4, 2) := dk_21 4 (dk_at dksX3_tune_2 7 rfl rfl)
theorem dX3_tune_57 : decode cX3_tune 57 = .ok (.iload 5, 2) := dk_21 5 (dk_at dksX3_tune_2 9 rfl rfl)
theorem dX3_tune_59 : decode cX3_tune 59 = .ok (.aload_n 0, 1) := dk_42 (dk_at dksX3_tune_2 11 rfl rfl)
theorem dX3_tune_60 : decode cX3_tune 60 = .ok (.getfield 64, 3) := dk_180 0 64 (dk_at dksX3_tune_2 12 rfl rfl)
theorem dX3_tune_63 : decode cX3_tune 63 = .ok (.iload_n 3, 1) := dk_29 (dk_at dksX3_tune_2 15 rfl rfl)
theorem dX3_tune_64 : decode cX3_tune 64 = .ok (.isub, 1) := dk_100 (dk_at dksX3_tune_2 16 rfl rfl)
theorem dX3_tune_65 : decode cX3_tune 65 = .ok (.aload_n 1, 1) := dk_43 (dk_at dksX3_tune_2 17 rfl rfl)
theorem dX3_tune_66 : decode cX3_tune 66 = .ok (.getfield 210, 3) := dk_180 0 210 (dk_at dksX3_tune_2 18 rfl rfl)
theorem dX3_tune_69 : decode cX3_tune 69 = .ok (.if_icmp .ge 7, 3) := dk_162 0 7 (dk_at dksX3_tune_2 21 rfl rfl)
theorem dX3_tune_72 : decode cX3_tune 72 = .ok (.iconst 1, 1) := dk_4 (dk_at dksX3_tune_3 0 rfl rfl)
theorem dX3_tune_73 : decode cX3_tune 73 = .ok (.goto 4, 3) := dk_167 0 4 (dk_at dksX3_tune_3 1 rfl rfl)
theorem dX3_tune_76 : decode cX3_tune 76 = .ok (.iconst 0, 1) := dk_3 (dk_at dksX3_tune_3 4 rfl rfl)
theorem dX3_tune_77 : decode cX3_tune 77 = .ok (.invokevirtual 213, 3) := dk_182 0 213 (dk_at dksX3_tune_3 5 rfl rfl)
theorem dX3_tune_80 : decode cX3_tune 80 = .ok (.istore 6, 2) := dk_54 6 (dk_at dksX3_tune_3 8 rfl rfl)
theorem dX3_tune_82 : decode cX3_tune 82 = .ok (.aload_n 1, 1) := dk_43 (dk_at dksX3_tune_3 10 rfl rfl)
theorem dX3_tune_83 : decode cX3_tune 83 = .ok (.getfield 204, 3) := dk_180 0 204 (dk_at dksX3_tune_3 11 rfl rfl)
theorem dX3_tune_86 : decode cX3_tune 86 = .ok (.ifCond .ne 9, 3) := dk_154 0 9 (dk_at dksX3_tune_3 14 rfl rfl)
theorem dX3_tune_89 : decode cX3_tune 89 = .ok (.aload_n 1, 1) := dk_43 (dk_at dksX3_tune_3 17 rfl rfl)
theorem dX3_tune_90 : decode cX3_tune 90 = .ok (.iload 6, 2) := dk_21 6 (dk_at dksX3_tune_3 18 rfl rfl)
theorem dX3_tune_92 : decode cX3_tune 92 = .ok (.putfield 204, 3) := dk_181 0 204 (dk_at dksX3_tune_3 20 rfl rfl)
theorem dX3_tune_95 : decode cX3_tune 95 = .ok (.iinc 4 1, 3) := dk_132 4 1 (dk_at dksX3_tune_4 0 rfl rfl)
theorem dX3_tune_98 : decode cX3_tune 98 = .ok (.goto (-68), 3) := dk_167 255 188 (dk_at dksX3_tune_4 3 rfl rfl)
theorem dX3_tune_101 : decode cX3_tune 101 = .ok (.aload_n 1, 1) := dk_43 (dk_at dksX3_tune_4 6 rfl rfl)
theorem dX3_tune_102 : decode cX3_tune 102 = .ok (.getfield 204, 3) := dk_180 0 204 (dk_at dksX3_tune_4 7 rfl rfl)
theorem dX3_tune_105 : decode cX3_tune 105 = .ok (.ifCond .ne 21, 3) := dk_154 0 21 (dk_at dksX3_tune_4 10 rfl rfl)
theorem dX3_tune_108 : decode cX3_tune 108 = .ok (.aload_n 1, 1) := dk_43 (dk_at dksX3_tune_4 13 rfl rfl)
theorem dX3_tune_109 : decode cX3_tune 109 = .ok (.aload_n 2, 1) := dk_44 (dk_at dksX3_tune_4 14 rfl rfl)
theorem dX3_tune_110 : decode cX3_tune 110 = .ok (.ifnonnull 7, 3) := dk_199 0 7 (dk_at dksX3_tune_4 15 rfl rfl)
theorem dX3_tune_113 : decode cX3_tune 113 = .ok (.iconst 1, 1) := dk_4 (dk_at dksX3_tune_4 18 rfl rfl)
theorem dX3_tune_114 : decode cX3_tune 114 = .ok (.goto 9, 3) := dk_167 0 9 (dk_at dksX3_tune_4 19 rfl rfl)
theorem dX3_tune_117 : decode cX3_tune 117 = .ok (.aload_n 2, 1) := dk_44 (dk_at dksX3_tune_4 22 rfl rfl)
theorem dX3_tune_118 : decode cX3_tune 118 = .ok (.getfield 217, 3) := dk_180 0 217 (dk_at dksX3_tune_5 0 rfl rfl)
theorem dX3_tune_121 : decode cX3_tune 121 = .ok (.iconst 1, 1) := dk_4 (dk_at dksX3_tune_5 3 rfl rfl)
theorem dX3_tune_122 : decode cX3_tune 122 = .ok (.iadd, 1) := dk_96 (dk_at dksX3_tune_5 4 rfl rfl)
theorem dX3_tune_123 : decode cX3_tune 123 = .ok (.putfield 217, 3) := dk_181 0 217 (dk_at dksX3_tune_5 5 rfl rfl)
theorem dX3_tune_126 : decode cX3_tune 126 = .ok (.return_, 1) := dk_177 (dk_at dksX3_tune_5 8 rfl rfl)
abbrev iX3_tune : xM := (yX3_tune, cX3_tune, 7, none, [])
theorem mX3_tune : xOkM iX3_tune := ⟨by decide +kernel, by decide, q2666, q132⟩
abbrev cX3_tuneString : ByteArray := prog_5_method_12_code
def yX3_tuneString : MethodName := ⟨RX3, "tuneString", "(LFiddleRow$Fiddler;IIZ)I"⟩
def dkwX3_tuneString_5 : List UInt8 := [29, 100, 184, 0, 223, 5, 163, 0, 7, 3, 167, 0, 4, 8, 172]
abbrev dktX3_tuneString_5 : List UInt8 := dkwX3_tuneString_5 ++ []
def dkwX3_tuneString_4 : List UInt8 := [182, 0, 233, 153, 0, 5, 7, 172, 43, 180, 0, 207, 28, 25, 6, 180, 0, 220, 79, 25, 6, 180, 0, 220]
abbrev dktX3_tuneString_4 : List UInt8 := dkwX3_tuneString_4 ++ dktX3_tuneString_5
def dkwX3_tuneString_3 : List UInt8 := [153, 0, 9, 42, 25, 5, 182, 0, 229, 3, 172, 21, 4, 154, 0, 5, 6, 172, 42, 25, 6, 21, 7, 116]
abbrev dktX3_tuneString_3 : List UInt8 := dkwX3_tuneString_3 ++ dktX3_tuneString_4
def dkwX3_tuneString_2 : List UInt8 := [43, 180, 0, 207, 28, 25, 6, 180, 0, 220, 79, 21, 7, 184, 0, 223, 5, 163, 0, 16, 21, 7]
abbrev dktX3_tuneString_2 : List UInt8 := dkwX3_tuneString_2 ++ dktX3_tuneString_3
def dkwX3_tuneString_1 : List UInt8 := [192, 0, 129, 58, 6, 25, 6, 180, 0, 168, 153, 0, 5, 5, 172, 25, 6, 180, 0, 220, 29, 100, 54, 7]
abbrev dktX3_tuneString_1 : List UInt8 := dkwX3_tuneString_1 ++ dktX3_tuneString_2
def dkwX3_tuneString_0 : List UInt8 := [187, 0, 127, 89, 43, 180, 0, 108, 28, 183, 0, 158, 58, 5, 42, 180, 0, 28, 25, 5, 182, 0, 161]
abbrev dktX3_tuneString_0 : List UInt8 := dkwX3_tuneString_0 ++ dktX3_tuneString_1
theorem dksX3_tuneString_0 : cX3_tuneString.data.toList.drop 0 = dktX3_tuneString_0 := by decide +kernel
theorem dksX3_tuneString_1 : cX3_tuneString.data.toList.drop 23 = dktX3_tuneString_1 := dk_seg dksX3_tuneString_0 23 rfl rfl
theorem dksX3_tuneString_2 : cX3_tuneString.data.toList.drop 47 = dktX3_tuneString_2 := dk_seg dksX3_tuneString_1 24 rfl rfl
theorem dksX3_tuneString_3 : cX3_tuneString.data.toList.drop 69 = dktX3_tuneString_3 := dk_seg dksX3_tuneString_2 22 rfl rfl
theorem dksX3_tuneString_4 : cX3_tuneString.data.toList.drop 93 = dktX3_tuneString_4 := dk_seg dksX3_tuneString_3 24 rfl rfl
theorem dksX3_tuneString_5 : cX3_tuneString.data.toList.drop 117 = dktX3_tuneString_5 := dk_seg dksX3_tuneString_4 24 rfl rfl
theorem dX3_tuneString_0 : decode cX3_tuneString 0 = .ok (.new 127, 3) := dk_187 0 127 (dk_at dksX3_tuneString_0 0 rfl rfl)
theorem dX3_tuneString_3 : decode cX3_tuneString 3 = .ok (.dup, 1) := dk_89 (dk_at dksX3_tuneString_0 3 rfl rfl)
theorem dX3_tuneString_4 : decode cX3_tuneString 4 = .ok (.aload_n 1, 1) := dk_43 (dk_at dksX3_tuneString_0 4 rfl rfl)
theorem dX3_tuneString_5 : decode cX3_tuneString 5 = .ok (.getfield 108, 3) := dk_180 0 108 (dk_at dksX3_tuneString_0 5 rfl rfl)
theorem dX3_tuneString_8 : decode cX3_tuneString 8 = .ok (.iload_n 2, 1) := dk_28 (dk_at dksX3_tuneString_0 8 rfl rfl)
theorem dX3_tuneString_9 : decode cX3_tuneString 9 = .ok (.invokespecial 158, 3) := dk_183 0 158 (dk_at dksX3_tuneString_0 9 rfl rfl)
theorem dX3_tuneString_12 : decode cX3_tuneString 12 = .ok (.astore 5, 2) := dk_58 5 (dk_at dksX3_tuneString_0 12 rfl rfl)
theorem dX3_tuneString_14 : decode cX3_tuneString 14 = .ok (.aload_n 0, 1) := dk_42 (dk_at dksX3_tuneString_0 14 rfl rfl)
theorem dX3_tuneString_15 : decode cX3_tuneString 15 = .ok (.getfield 28, 3) := dk_180 0 28 (dk_at dksX3_tuneString_0 15 rfl rfl)
theorem dX3_tuneString_18 : decode cX3_tuneString 18 = .ok (.aload 5, 2) := dk_25 5 (dk_at dksX3_tuneString_0 18 rfl rfl)
theorem dX3_tuneString_20 : decode cX3_tuneString 20 = .ok (.invokevirtual 161, 3) := dk_182 0 161 (dk_at dksX3_tuneString_0 20 rfl rfl)
theorem dX3_tuneString_23 : decode cX3_tuneString 23 = .ok (.checkcast 129, 3) := dk_192 0 129 (dk_at dksX3_tuneString_1 0 rfl rfl)
theorem dX3_tuneString_26 : decode cX3_tuneString 26 = .ok (.astore 6, 2) := dk_58 6 (dk_at dksX3_tuneString_1 3 rfl rfl)
theorem dX3_tuneString_28 : decode cX3_tuneString 28 = .ok (.aload 6, 2) := dk_25 6 (dk_at dksX3_tuneString_1 5 rfl rfl)
theorem dX3_tuneString_30 : decode cX3_tuneString 30 = .ok (.getfield 168, 3) := dk_180 0 168 (dk_at dksX3_tuneString_1 7 rfl rfl)
theorem dX3_tuneString_33 : decode cX3_tuneString 33 = .ok (.ifCond .eq 5, 3) := dk_153 0 5 (dk_at dksX3_tuneString_1 10 rfl rfl)
theorem dX3_tuneString_36 : decode cX3_tuneString 36 = .ok (.iconst 2, 1) := dk_5 (dk_at dksX3_tuneString_1 13 rfl rfl)
theorem dX3_tuneString_37 : decode cX3_tuneString 37 = .ok (.ireturn, 1) := dk_172 (dk_at dksX3_tuneString_1 14 rfl rfl)
theorem dX3_tuneString_38 : decode cX3_tuneString 38 = .ok (.aload 6, 2) := dk_25 6 (dk_at dksX3_tuneString_1 15 rfl rfl)
theorem dX3_tuneString_40 : decode cX3_tuneString 40 = .ok (.getfield 220, 3) := dk_180 0 220 (dk_at dksX3_tuneString_1 17 rfl rfl)
theorem dX3_tuneString_43 : decode cX3_tuneString 43 = .ok (.iload_n 3, 1) := dk_29 (dk_at dksX3_tuneString_1 20 rfl rfl)
theorem dX3_tuneString_44 : decode cX3_tuneString 44 = .ok (.isub, 1) := dk_100 (dk_at dksX3_tuneString_1 21 rfl rfl)
theorem dX3_tuneString_45 : decode cX3_tuneString 45 = .ok (.istore 7, 2) := dk_54 7 (dk_at dksX3_tuneString_1 22 rfl rfl)
theorem dX3_tuneString_47 : decode cX3_tuneString 47 = .ok (.aload_n 1, 1) := dk_43 (dk_at dksX3_tuneString_2 0 rfl rfl)
theorem dX3_tuneString_48 : decode cX3_tuneString 48 = .ok (.getfield 207, 3) := dk_180 0 207 (dk_at dksX3_tuneString_2 1 rfl rfl)
theorem dX3_tuneString_51 : decode cX3_tuneString 51 = .ok (.iload_n 2, 1) := dk_28 (dk_at dksX3_tuneString_2 4 rfl rfl)
theorem dX3_tuneString_52 : decode cX3_tuneString 52 = .ok (.aload 6, 2) := dk_25 6 (dk_at dksX3_tuneString_2 5 rfl rfl)
theorem dX3_tuneString_54 : decode cX3_tuneString 54 = .ok (.getfield 220, 3) := dk_180 0 220 (dk_at dksX3_tuneString_2 7 rfl rfl)
theorem dX3_tuneString_57 : decode cX3_tuneString 57 = .ok (.iastore, 1) := dk_79 (dk_at dksX3_tuneString_2 10 rfl rfl)
theorem dX3_tuneString_58 : decode cX3_tuneString 58 = .ok (.iload 7, 2) := dk_21 7 (dk_at dksX3_tuneString_2 11 rfl rfl)
theorem dX3_tuneString_60 : decode cX3_tuneString 60 = .ok (.invokestatic 223, 3) := dk_184 0 223 (dk_at dksX3_tuneString_2 13 rfl rfl)
theorem dX3_tuneString_63 : decode cX3_tuneString 63 = .ok (.iconst 2, 1) := dk_5 (dk_at dksX3_tuneString_2 16 rfl rfl)
theorem dX3_tuneString_64 : decode cX3_tuneString 64 = .ok (.if_icmp .gt 16, 3) := dk_163 0 16 (dk_at dksX3_tuneString_2 17 rfl rfl)
theorem dX3_tuneString_67 : decode cX3_tuneString 67 = .ok (.iload 7, 2) := dk_21 7 (dk_at dksX3_tuneString_2 20 rfl rfl)
theorem dX3_tuneString_69 : decode cX3_tuneString 69 = .ok (.ifCond .eq 9, 3) := dk_153 0 9 (dk_at dksX3_tuneString_3 0 rfl rfl)
theorem dX3_tuneString_72 : decode cX3_tuneString 72 = .ok (.aload_n 0, 1) := dk_42 (dk_at dksX3_tuneString_3 3 rfl rfl)
theorem dX3_tuneString_73 : decode cX3_tuneString 73 = .ok (.aload 5, 2) := dk_25 5 (dk_at dksX3_tuneString_3 4 rfl rfl)
theorem dX3_tuneString_75 : decode cX3_tuneString 75 = .ok (.invokevirtual 229, 3) := dk_182 0 229 (dk_at dksX3_tuneString_3 6 rfl rfl)
theorem dX3_tuneString_78 : decode cX3_tuneString 78 = .ok (.iconst 0, 1) := dk_3 (dk_at dksX3_tuneString_3 9 rfl rfl)
theorem dX3_tuneString_79 : decode cX3_tuneString 79 = .ok (.ireturn, 1) := dk_172 (dk_at dksX3_tuneString_3 10 rfl rfl)
theorem dX3_tuneString_80 : decode cX3_tuneString 80 = .ok (.iload 4, 2) := dk_21 4 (dk_at dksX3_tuneString_3 11 rfl rfl)
theorem dX3_tuneString_82 : decode cX3_tuneString 82 = .ok (.ifCond .ne 5, 3) := dk_154 0 5 (dk_at dksX3_tuneString_3 13 rfl rfl)
theorem dX3_tuneString_85 : decode cX3_tuneString 85 = .ok (.iconst 3, 1) := dk_6 (dk_at dksX3_tuneString_3 16 rfl rfl)
theorem dX3_tuneString_86 : decode cX3_tuneString 86 = .ok (.ireturn, 1) := dk_172 (dk_at dksX3_tuneString_3 17 rfl rfl)
theorem dX3_tuneString_87 : decode cX3_tuneString 87 = .ok (.aload_n 0, 1) := dk_42 (dk_at dksX3_tuneString_3 18 rfl rfl)
theorem dX3_tuneString_88 : decode cX3_tuneString 88 = .ok (.aload 6, 2) := dk_25 6 (dk_at dksX3_tuneString_3 19 rfl rfl)
theorem dX3_tuneString_90 : decode cX3_tuneString 90 = .ok (.iload 7, 2) := dk_21 7 (dk_at dksX3_tuneString_3 21 rfl rfl)
theorem dX3_tuneString_92 : decode cX3_tuneString 92 = .ok (.ineg, 1) := dk_116 (dk_at dksX3_tuneString_3 23 rfl rfl)
theorem dX3_tuneString_93 : decode cX3_tuneString 93 = .ok (.invokevirtual 233, 3) := dk_182 0 233 (dk_at dksX3_tuneString_4 0 rfl rfl)
theorem dX3_tuneString_96 : decode cX3_tuneString 96 = .ok (.ifCond .eq 5, 3) := dk_153 0 5 (dk_at dksX3_tuneString_4 3 rfl rfl)
theorem dX3_tuneString_99 : decode cX3_tuneString 99 = .ok (.iconst 4, 1) := dk_7 (dk_at dksX3_tuneString_4 6 rfl rfl)
theorem dX3_tuneString_100 : decode cX3_tuneString 100 = .ok (.ireturn, 1) := dk_172 (dk_at dksX3_tuneString_4 7 rfl rfl)
theorem dX3_tuneString_101 : decode cX3_tuneString 101 = .ok (.aload_n 1, 1) := dk_43 (dk_at dksX3_tuneString_4 8 rfl rfl)
theorem dX3_tuneString_102 : decode cX3_tuneString 102 = .ok (.getfield 207, 3) := dk_180 0 207 (dk_at dksX3_tuneString_4 9 rfl rfl)
theorem dX3_tuneString_105 : decode cX3_tuneString 105 = .ok (.iload_n 2, 1) := dk_28 (dk_at dksX3_tuneString_4 12 rfl rfl)
theorem dX3_tuneString_106 : decode cX3_tuneString 106 = .ok (.aload 6, 2) := dk_25 6 (dk_at dksX3_tuneString_4 13 rfl rfl)
theorem dX3_tuneString_108 : decode cX3_tuneString 108 = .ok (.getfield 220, 3) := dk_180 0 220 (dk_at dksX3_tuneString_4 15 rfl rfl)
theorem dX3_tuneString_111 : decode cX3_tuneString 111 = .ok (.iastore, 1) := dk_79 (dk_at dksX3_tuneString_4 18 rfl rfl)
theorem dX3_tuneString_112 : decode cX3_tuneString 112 = .ok (.aload 6, 2) := dk_25 6 (dk_at dksX3_tuneString_4 19 rfl rfl)
theorem dX3_tuneString_114 : decode cX3_tuneString 114 = .ok (.getfield 220, 3) := dk_180 0 220 (dk_at dksX3_tuneString_4 21 rfl rfl)
theorem dX3_tuneString_117 : decode cX3_tuneString 117 = .ok (.iload_n 3, 1) := dk_29 (dk_at dksX3_tuneString_5 0 rfl rfl)
theorem dX3_tuneString_118 : decode cX3_tuneString 118 = .ok (.isub, 1) := dk_100 (dk_at dksX3_tuneString_5 1 rfl rfl)
theorem dX3_tuneString_119 : decode cX3_tuneString 119 = .ok (.invokestatic 223, 3) := dk_184 0 223 (dk_at dksX3_tuneString_5 2 rfl rfl)
theorem dX3_tuneString_122 : decode cX3_tuneString 122 = .ok (.iconst 2, 1) := dk_5 (dk_at dksX3_tuneString_5 5 rfl rfl)
theorem dX3_tuneString_123 : decode cX3_tuneString 123 = .ok (.if_icmp .gt 7, 3) := dk_163 0 7 (dk_at dksX3_tuneString_5 6 rfl rfl)
theorem dX3_tuneString_126 : decode cX3_tuneString 126 = .ok (.iconst 0, 1) := dk_3 (dk_at dksX3_tuneString_5 9 rfl rfl)
theorem dX3_tuneString_127 : decode cX3_tuneString 127 = .ok (.goto 4, 3) := dk_167 0 4 (dk_at dksX3_tuneString_5 10 rfl rfl)
theorem dX3_tuneString_130 : decode cX3_tuneString 130 = .ok (.iconst 5, 1) := dk_8 (dk_at dksX3_tuneString_5 13 rfl rfl)
theorem dX3_tuneString_131 : decode cX3_tuneString 131 = .ok (.ireturn, 1) := dk_172 (dk_at dksX3_tuneString_5 14 rfl rfl)
abbrev iX3_tuneString : xM := (yX3_tuneString, cX3_tuneString, 8, (some .int), [])
theorem mX3_tuneString : xOkM iX3_tuneString := ⟨by decide +kernel, by decide, q2670, q132⟩
abbrev cX3_forgive : ByteArray := prog_5_method_13_code
def yX3_forgive : MethodName := ⟨RX3, "forgive", "(LFiddleRow$StringKey;)V"⟩
def dkwX3_forgive_0 : List UInt8 := [42, 180, 0, 35, 43, 182, 0, 142, 61, 42, 89, 180, 0, 67, 4, 96, 181, 0, 67, 177]
abbrev dktX3_forgive_0 : List UInt8 := dkwX3_forgive_0 ++ []
theorem dksX3_forgive_0 : cX3_forgive.data.toList.drop 0 = dktX3_forgive_0 := by decide +kernel
theorem dX3_forgive_0 : decode cX3_forgive 0 = .ok (.aload_n 0, 1) := dk_42 (dk_at dksX3_forgive_0 0 rfl rfl)
theorem dX3_forgive_1 : decode cX3_forgive 1 = .ok (.getfield 35, 3) := dk_180 0 35 (dk_at dksX3_forgive_0 1 rfl rfl)
theorem dX3_forgive_4 : decode cX3_forgive 4 = .ok (.aload_n 1, 1) := dk_43 (dk_at dksX3_forgive_0 4 rfl rfl)
theorem dX3_forgive_5 : decode cX3_forgive 5 = .ok (.invokevirtual 142, 3) := dk_182 0 142 (dk_at dksX3_forgive_0 5 rfl rfl)
theorem dX3_forgive_8 : decode cX3_forgive 8 = .ok (.istore_n 2, 1) := dk_61 (dk_at dksX3_forgive_0 8 rfl rfl)
theorem dX3_forgive_9 : decode cX3_forgive 9 = .ok (.aload_n 0, 1) := dk_42 (dk_at dksX3_forgive_0 9 rfl rfl)
theorem dX3_forgive_10 : decode cX3_forgive 10 = .ok (.dup, 1) := dk_89 (dk_at dksX3_forgive_0 10 rfl rfl)
theorem dX3_forgive_11 : decode cX3_forgive 11 = .ok (.getfield 67, 3) := dk_180 0 67 (dk_at dksX3_forgive_0 11 rfl rfl)
theorem dX3_forgive_14 : decode cX3_forgive 14 = .ok (.iconst 1, 1) := dk_4 (dk_at dksX3_forgive_0 14 rfl rfl)
theorem dX3_forgive_15 : decode cX3_forgive 15 = .ok (.iadd, 1) := dk_96 (dk_at dksX3_forgive_0 15 rfl rfl)
theorem dX3_forgive_16 : decode cX3_forgive 16 = .ok (.putfield 67, 3) := dk_181 0 67 (dk_at dksX3_forgive_0 16 rfl rfl)
theorem dX3_forgive_19 : decode cX3_forgive 19 = .ok (.return_, 1) := dk_177 (dk_at dksX3_forgive_0 19 rfl rfl)
abbrev iX3_forgive : xM := (yX3_forgive, cX3_forgive, 3, none, [])
theorem mX3_forgive : xOkM iX3_forgive := ⟨by decide +kernel, by decide, q2692, q132⟩
abbrev cX3_turn : ByteArray := prog_5_method_14_code
def yX3_turn : MethodName := ⟨RX3, "turn", "(LFiddleRow$Peg;I)Z"⟩
def dkwX3_turn_1 : List UInt8 := [180, 0, 70, 4, 96, 181, 0, 70, 29, 172]
abbrev dktX3_turn_1 : List UInt8 := dkwX3_turn_1 ++ []
def dkwX3_turn_0 : List UInt8 := [42, 89, 180, 0, 64, 4, 96, 181, 0, 64, 43, 28, 182, 0, 237, 62, 29, 153, 0, 13, 42, 89]
abbrev dktX3_turn_0 : List UInt8 := dkwX3_turn_0 ++ dktX3_turn_1
theorem dksX3_turn_0 : cX3_turn.data.toList.drop 0 = dktX3_turn_0 := by decide +kernel
theorem dksX3_turn_1 : cX3_turn.data.toList.drop 22 = dktX3_turn_1 := dk_seg dksX3_turn_0 22 rfl rfl
theorem dX3_turn_0 : decode cX3_turn 0 = .ok (.aload_n 0, 1) := dk_42 (dk_at dksX3_turn_0 0 rfl rfl)
theorem dX3_turn_1 : decode cX3_turn 1 = .ok (.dup, 1) := dk_89 (dk_at dksX3_turn_0 1 rfl rfl)
theorem dX3_turn_2 : decode cX3_turn 2 = .ok (.getfield 64, 3) := dk_180 0 64 (dk_at dksX3_turn_0 2 rfl rfl)
theorem dX3_turn_5 : decode cX3_turn 5 = .ok (.iconst 1, 1) := dk_4 (dk_at dksX3_turn_0 5 rfl rfl)
theorem dX3_turn_6 : decode cX3_turn 6 = .ok (.iadd, 1) := dk_96 (dk_at dksX3_turn_0 6 rfl rfl)
theorem dX3_turn_7 : decode cX3_turn 7 = .ok (.putfield 64, 3) := dk_181 0 64 (dk_at dksX3_turn_0 7 rfl rfl)
theorem dX3_turn_10 : decode cX3_turn 10 = .ok (.aload_n 1, 1) := dk_43 (dk_at dksX3_turn_0 10 rfl rfl)
theorem dX3_turn_11 : decode cX3_turn 11 = .ok (.iload_n 2, 1) := dk_28 (dk_at dksX3_turn_0 11 rfl rfl)
theorem dX3_turn_12 : decode cX3_turn 12 = .ok (.invokevirtual 237, 3) := dk_182 0 237 (dk_at dksX3_turn_0 12 rfl rfl)
theorem dX3_turn_15 : decode cX3_turn 15 = .ok (.istore_n 3, 1) := dk_62 (dk_at dksX3_turn_0 15 rfl rfl)
theorem dX3_turn_16 : decode cX3_turn 16 = .ok (.iload_n 3, 1) := dk_29 (dk_at dksX3_turn_0 16 rfl rfl)
theorem dX3_turn_17 : decode cX3_turn 17 = .ok (.ifCond .eq 13, 3) := dk_153 0 13 (dk_at dksX3_turn_0 17 rfl rfl)
theorem dX3_turn_20 : decode cX3_turn 20 = .ok (.aload_n 0, 1) := dk_42 (dk_at dksX3_turn_0 20 rfl rfl)
theorem dX3_turn_21 : decode cX3_turn 21 = .ok (.dup, 1) := dk_89 (dk_at dksX3_turn_0 21 rfl rfl)
theorem dX3_turn_22 : decode cX3_turn 22 = .ok (.getfield 70, 3) := dk_180 0 70 (dk_at dksX3_turn_1 0 rfl rfl)
theorem dX3_turn_25 : decode cX3_turn 25 = .ok (.iconst 1, 1) := dk_4 (dk_at dksX3_turn_1 3 rfl rfl)
theorem dX3_turn_26 : decode cX3_turn 26 = .ok (.iadd, 1) := dk_96 (dk_at dksX3_turn_1 4 rfl rfl)
theorem dX3_turn_27 : decode cX3_turn 27 = .ok (.putfield 70, 3) := dk_181 0 70 (dk_at dksX3_turn_1 5 rfl rfl)
theorem dX3_turn_30 : decode cX3_turn 30 = .ok (.iload_n 3, 1) := dk_29 (dk_at dksX3_turn_1 8 rfl rfl)
theorem dX3_turn_31 : decode cX3_turn 31 = .ok (.ireturn, 1) := dk_172 (dk_at dksX3_turn_1 9 rfl rfl)
abbrev iX3_turn : xM := (yX3_turn, cX3_turn, 4, (some .boolean), [])
theorem mX3_turn : xOkM iX3_turn := ⟨by decide +kernel, by decide, q2696, q132⟩
abbrev cX3_turnPeg : ByteArray := prog_5_method_17_code
def yX3_turnPeg : MethodName := ⟨RX3, "turnPeg", "(III)I"⟩
def dkwX3_turnPeg_2 : List UInt8 := [184, 0, 172, 42, 25, 4, 29, 182, 0, 233, 54, 5, 25, 4, 180, 1, 3, 172]
abbrev dktX3_turnPeg_2 : List UInt8 := dkwX3_turnPeg_2 ++ []
def dkwX3_turnPeg_1 : List UInt8 := [153, 0, 7, 4, 167, 0, 4, 3, 184, 1, 0, 25, 4, 180, 0, 168, 154, 0, 7, 4, 167, 0, 4, 3]
abbrev dktX3_turnPeg_1 : List UInt8 := dkwX3_turnPeg_1 ++ dktX3_turnPeg_2
def dkwX3_turnPeg_0 : List UInt8 := [42, 27, 28, 182, 0, 164, 58, 4, 29, 153, 0, 20, 29, 17, 254, 212, 17, 1, 44, 184, 0, 150]
abbrev dktX3_turnPeg_0 : List UInt8 := dkwX3_turnPeg_0 ++ dktX3_turnPeg_1
theorem dksX3_turnPeg_0 : cX3_turnPeg.data.toList.drop 0 = dktX3_turnPeg_0 := by decide +kernel
theorem dksX3_turnPeg_1 : cX3_turnPeg.data.toList.drop 22 = dktX3_turnPeg_1 := dk_seg dksX3_turnPeg_0 22 rfl rfl
theorem dksX3_turnPeg_2 : cX3_turnPeg.data.toList.drop 46 = dktX3_turnPeg_2 := dk_seg dksX3_turnPeg_1 24 rfl rfl
theorem dX3_turnPeg_0 : decode cX3_turnPeg 0 = .ok (.aload_n 0, 1) := dk_42 (dk_at dksX3_turnPeg_0 0 rfl rfl)
theorem dX3_turnPeg_1 : decode cX3_turnPeg 1 = .ok (.iload_n 1, 1) := dk_27 (dk_at dksX3_turnPeg_0 1 rfl rfl)
theorem dX3_turnPeg_2 : decode cX3_turnPeg 2 = .ok (.iload_n 2, 1) := dk_28 (dk_at dksX3_turnPeg_0 2 rfl rfl)
theorem dX3_turnPeg_3 : decode cX3_turnPeg 3 = .ok (.invokevirtual 164, 3) := dk_182 0 164 (dk_at dksX3_turnPeg_0 3 rfl rfl)
theorem dX3_turnPeg_6 : decode cX3_turnPeg 6 = .ok (.astore 4, 2) := dk_58 4 (dk_at dksX3_turnPeg_0 6 rfl rfl)
theorem dX3_turnPeg_8 : decode cX3_turnPeg 8 = .ok (.iload_n 3, 1) := dk_29 (dk_at dksX3_turnPeg_0 8 rfl rfl)
theorem dX3_turnPeg_9 : decode cX3_turnPeg 9 = .ok (.ifCond .eq 20, 3) := dk_153 0 20 (dk_at dksX3_turnPeg_0 9 rfl rfl)
theorem dX3_turnPeg_12 : decode cX3_turnPeg 12 = .ok (.iload_n 3, 1) := dk_29 (dk_at dksX3_turnPeg_0 12 rfl rfl)
theorem dX3_turnPeg_13 : decode cX3_turnPeg 13 = .ok (.sipush (-300), 3) := dk_17 254 212 (dk_at dksX3_turnPeg_0 13 rfl rfl)
theorem dX3_turnPeg_16 : decode cX3_turnPeg 16 = .ok (.sipush 300, 3) := dk_17 1 44 (dk_at dksX3_turnPeg_0 16 rfl rfl)
theorem dX3_turnPeg_19 : decode cX3_turnPeg 19 = .ok (.invokestatic 150, 3) := dk_184 0 150 (dk_at dksX3_turnPeg_0 19 rfl rfl)
theorem dX3_turnPeg_22 : decode cX3_turnPeg 22 = .ok (.ifCond .eq 7, 3) := dk_153 0 7 (dk_at dksX3_turnPeg_1 0 rfl rfl)
theorem dX3_turnPeg_25 : decode cX3_turnPeg 25 = .ok (.iconst 1, 1) := dk_4 (dk_at dksX3_turnPeg_1 3 rfl rfl)
theorem dX3_turnPeg_26 : decode cX3_turnPeg 26 = .ok (.goto 4, 3) := dk_167 0 4 (dk_at dksX3_turnPeg_1 4 rfl rfl)
theorem dX3_turnPeg_29 : decode cX3_turnPeg 29 = .ok (.iconst 0, 1) := dk_3 (dk_at dksX3_turnPeg_1 7 rfl rfl)
theorem dX3_turnPeg_30 : decode cX3_turnPeg 30 = .ok (.invokestatic 256, 3) := dk_184 1 0 (dk_at dksX3_turnPeg_1 8 rfl rfl)
theorem dX3_turnPeg_33 : decode cX3_turnPeg 33 = .ok (.aload 4, 2) := dk_25 4 (dk_at dksX3_turnPeg_1 11 rfl rfl)
theorem dX3_turnPeg_35 : decode cX3_turnPeg 35 = .ok (.getfield 168, 3) := dk_180 0 168 (dk_at dksX3_turnPeg_1 13 rfl rfl)
theorem dX3_turnPeg_38 : decode cX3_turnPeg 38 = .ok (.ifCond .ne 7, 3) := dk_154 0 7 (dk_at dksX3_turnPeg_1 16 rfl rfl)
theorem dX3_turnPeg_41 : decode cX3_turnPeg 41 = .ok (.iconst 1, 1) := dk_4 (dk_at dksX3_turnPeg_1 19 rfl rfl)
theorem dX3_turnPeg_42 : decode cX3_turnPeg 42 = .ok (.goto 4, 3) := dk_167 0 4 (dk_at dksX3_turnPeg_1 20 rfl rfl)
theorem dX3_turnPeg_45 : decode cX3_turnPeg 45 = .ok (.iconst 0, 1) := dk_3 (dk_at dksX3_turnPeg_1 23 rfl rfl)
theorem dX3_turnPeg_46 : decode cX3_turnPeg 46 = .ok (.invokestatic 172, 3) := dk_184 0 172 (dk_at dksX3_turnPeg_2 0 rfl rfl)
theorem dX3_turnPeg_49 : decode cX3_turnPeg 49 = .ok (.aload_n 0, 1) := dk_42 (dk_at dksX3_turnPeg_2 3 rfl rfl)
theorem dX3_turnPeg_50 : decode cX3_turnPeg 50 = .ok (.aload 4, 2) := dk_25 4 (dk_at dksX3_turnPeg_2 4 rfl rfl)
theorem dX3_turnPeg_52 : decode cX3_turnPeg 52 = .ok (.iload_n 3, 1) := dk_29 (dk_at dksX3_turnPeg_2 6 rfl rfl)
theorem dX3_turnPeg_53 : decode cX3_turnPeg 53 = .ok (.invokevirtual 233, 3) := dk_182 0 233 (dk_at dksX3_turnPeg_2 7 rfl rfl)
theorem dX3_turnPeg_56 : decode cX3_turnPeg 56 = .ok (.istore 5, 2) := dk_54 5 (dk_at dksX3_turnPeg_2 10 rfl rfl)
theorem dX3_turnPeg_58 : decode cX3_turnPeg 58 = .ok (.aload 4, 2) := dk_25 4 (dk_at dksX3_turnPeg_2 12 rfl rfl)
theorem dX3_turnPeg_60 : decode cX3_turnPeg 60 = .ok (.getfield 259, 3) := dk_180 1 3 (dk_at dksX3_turnPeg_2 14 rfl rfl)
theorem dX3_turnPeg_63 : decode cX3_turnPeg 63 = .ok (.ireturn, 1) := dk_172 (dk_at dksX3_turnPeg_2 17 rfl rfl)
abbrev iX3_turnPeg : xM := (yX3_turnPeg, cX3_turnPeg, 6, (some .int), [])
theorem mX3_turnPeg : xOkM iX3_turnPeg := ⟨by decide +kernel, by decide, q2714, q132⟩
abbrev cX3_peg : ByteArray := prog_5_method_5_code
def yX3_peg : MethodName := ⟨RX3, "peg", "(II)LFiddleRow$Peg;"⟩
def dkwX3_peg_2 : List UInt8 := [182, 0, 161, 192, 0, 129, 176]
abbrev dktX3_peg_2 : List UInt8 := dkwX3_peg_2 ++ []
def dkwX3_peg_1 : List UInt8 := [153, 0, 7, 4, 167, 0, 4, 3, 184, 0, 154, 42, 180, 0, 28, 187, 0, 127, 89, 27, 28, 183, 0, 158]
abbrev dktX3_peg_1 : List UInt8 := dkwX3_peg_1 ++ dktX3_peg_2
def dkwX3_peg_0 : List UInt8 := [27, 3, 42, 180, 0, 18, 182, 0, 146, 4, 100, 184, 0, 150, 153, 0, 16, 28, 3, 6, 184, 0, 150]
abbrev dktX3_peg_0 : List UInt8 := dkwX3_peg_0 ++ dktX3_peg_1
theorem dksX3_peg_0 : cX3_peg.data.toList.drop 0 = dktX3_peg_0 := by decide +kernel
theorem dksX3_peg_1 : cX3_peg.data.toList.drop 23 = dktX3_peg_1 := dk_seg dksX3_peg_0 23 rfl rfl
theorem dksX3_peg_2 : cX3_peg.data.toList.drop 47 = dktX3_peg_2 := dk_seg dksX3_peg_1 24 rfl rfl
theorem dX3_peg_0 : decode cX3_peg 0 = .ok (.iload_n 1, 1) := dk_27 (dk_at dksX3_peg_0 0 rfl rfl)
theorem dX3_peg_1 : decode cX3_peg 1 = .ok (.iconst 0, 1) := dk_3 (dk_at dksX3_peg_0 1 rfl rfl)
theorem dX3_peg_2 : decode cX3_peg 2 = .ok (.aload_n 0, 1) := dk_42 (dk_at dksX3_peg_0 2 rfl rfl)
theorem dX3_peg_3 : decode cX3_peg 3 = .ok (.getfield 18, 3) := dk_180 0 18 (dk_at dksX3_peg_0 3 rfl rfl)
theorem dX3_peg_6 : decode cX3_peg 6 = .ok (.invokevirtual 146, 3) := dk_182 0 146 (dk_at dksX3_peg_0 6 rfl rfl)
theorem dX3_peg_9 : decode cX3_peg 9 = .ok (.iconst 1, 1) := dk_4 (dk_at dksX3_peg_0 9 rfl rfl)
theorem dX3_peg_10 : decode cX3_peg 10 = .ok (.isub, 1) := dk_100 (dk_at dksX3_peg_0 10 rfl rfl)
theorem dX3_peg_11 : decode cX3_peg 11 = .ok (.invokestatic 150, 3) := dk_184 0 150 (dk_at dksX3_peg_0 11 rfl rfl)
theorem dX3_peg_14 : decode cX3_peg 14 = .ok (.ifCond .eq 16, 3) := dk_153 0 16 (dk_at dksX3_peg_0 14 rfl rfl)
theorem dX3_peg_17 : decode cX3_peg 17 = .ok (.iload_n 2, 1) := dk_28 (dk_at dksX3_peg_0 17 rfl rfl)
theorem dX3_peg_18 : decode cX3_peg 18 = .ok (.iconst 0, 1) := dk_3 (dk_at dksX3_peg_0 18 rfl rfl)
theorem dX3_peg_19 : decode cX3_peg 19 = .ok (.iconst 3, 1) := dk_6 (dk_at dksX3_peg_0 19 rfl rfl)
theorem dX3_peg_20 : decode cX3_peg 20 = .ok (.invokestatic 150, 3) := dk_184 0 150 (dk_at dksX3_peg_0 20 rfl rfl)
theorem dX3_peg_23 : decode cX3_peg 23 = .ok (.ifCond .eq 7, 3) := dk_153 0 7 (dk_at dksX3_peg_1 0 rfl rfl)
theorem dX3_peg_26 : decode cX3_peg 26 = .ok (.iconst 1, 1) := dk_4 (dk_at dksX3_peg_1 3 rfl rfl)
theorem dX3_peg_27 : decode cX3_peg 27 = .ok (.goto 4, 3) := dk_167 0 4 (dk_at dksX3_peg_1 4 rfl rfl)
theorem dX3_peg_30 : decode cX3_peg 30 = .ok (.iconst 0, 1) := dk_3 (dk_at dksX3_peg_1 7 rfl rfl)
theorem dX3_peg_31 : decode cX3_peg 31 = .ok (.invokestatic 154, 3) := dk_184 0 154 (dk_at dksX3_peg_1 8 rfl rfl)
theorem dX3_peg_34 : decode cX3_peg 34 = .ok (.aload_n 0, 1) := dk_42 (dk_at dksX3_peg_1 11 rfl rfl)
theorem dX3_peg_35 : decode cX3_peg 35 = .ok (.getfield 28, 3) := dk_180 0 28 (dk_at dksX3_peg_1 12 rfl rfl)
theorem dX3_peg_38 : decode cX3_peg 38 = .ok (.new 127, 3) := dk_187 0 127 (dk_at dksX3_peg_1 15 rfl rfl)
theorem dX3_peg_41 : decode cX3_peg 41 = .ok (.dup, 1) := dk_89 (dk_at dksX3_peg_1 18 rfl rfl)
theorem dX3_peg_42 : decode cX3_peg 42 = .ok (.iload_n 1, 1) := dk_27 (dk_at dksX3_peg_1 19 rfl rfl)
theorem dX3_peg_43 : decode cX3_peg 43 = .ok (.iload_n 2, 1) := dk_28 (dk_at dksX3_peg_1 20 rfl rfl)
theorem dX3_peg_44 : decode cX3_peg 44 = .ok (.invokespecial 158, 3) := dk_183 0 158 (dk_at dksX3_peg_1 21 rfl rfl)
theorem dX3_peg_47 : decode cX3_peg 47 = .ok (.invokevirtual 161, 3) := dk_182 0 161 (dk_at dksX3_peg_2 0 rfl rfl)
theorem dX3_peg_50 : decode cX3_peg 50 = .ok (.checkcast 129, 3) := dk_192 0 129 (dk_at dksX3_peg_2 3 rfl rfl)
theorem dX3_peg_53 : decode cX3_peg 53 = .ok (.areturn, 1) := dk_176 (dk_at dksX3_peg_2 6 rfl rfl)
abbrev iX3_peg : xM := (yX3_peg, cX3_peg, 3, (some (.object "FiddleRow$Peg")), [])
theorem mX3_peg : xOkM iX3_peg := ⟨by decide +kernel, by decide, q2718, q132⟩
abbrev cX3_chalkPeg : ByteArray := prog_5_method_18_code
def yX3_chalkPeg : MethodName := ⟨RX3, "chalkPeg", "(II)I"⟩
def dkwX3_chalkPeg_2 : List UInt8 := [89, 180, 0, 73, 4, 96, 181, 0, 73, 42, 180, 0, 46, 172]
abbrev dktX3_chalkPeg_2 : List UInt8 := dkwX3_chalkPeg_2 ++ []
def dkwX3_chalkPeg_1 : List UInt8 := [167, 0, 4, 3, 184, 0, 172, 45, 16, 9, 181, 1, 3, 42, 89, 180, 0, 46, 4, 100, 181, 0, 46, 42]
abbrev dktX3_chalkPeg_1 : List UInt8 := dkwX3_chalkPeg_1 ++ dktX3_chalkPeg_2
def dkwX3_chalkPeg_0 : List UInt8 := [42, 27, 28, 182, 0, 164, 78, 45, 180, 1, 3, 16, 9, 162, 0, 14, 42, 180, 0, 46, 158, 0, 7, 4]
abbrev dktX3_chalkPeg_0 : List UInt8 := dkwX3_chalkPeg_0 ++ dktX3_chalkPeg_1
theorem dksX3_chalkPeg_0 : cX3_chalkPeg.data.toList.drop 0 = dktX3_chalkPeg_0 := by decide +kernel
theorem dksX3_chalkPeg_1 : cX3_chalkPeg.data.toList.drop 24 = dktX3_chalkPeg_1 := dk_seg dksX3_chalkPeg_0 24 rfl rfl
theorem dksX3_chalkPeg_2 : cX3_chalkPeg.data.toList.drop 48 = dktX3_chalkPeg_2 := dk_seg dksX3_chalkPeg_1 24 rfl rfl
theorem dX3_chalkPeg_0 : decode cX3_chalkPeg 0 = .ok (.aload_n 0, 1) := dk_42 (dk_at dksX3_chalkPeg_0 0 rfl rfl)
theorem dX3_chalkPeg_1 : decode cX3_chalkPeg 1 = .ok (.iload_n 1, 1) := dk_27 (dk_at dksX3_chalkPeg_0 1 rfl rfl)
theorem dX3_chalkPeg_2 : decode cX3_chalkPeg 2 = .ok (.iload_n 2, 1) := dk_28 (dk_at dksX3_chalkPeg_0 2 rfl rfl)
theorem dX3_chalkPeg_3 : decode cX3_chalkPeg 3 = .ok (.invokevirtual 164, 3) := dk_182 0 164 (dk_at dksX3_chalkPeg_0 3 rfl rfl)
theorem dX3_chalkPeg_6 : decode cX3_chalkPeg 6 = .ok (.astore_n 3, 1) := dk_78 (dk_at dksX3_chalkPeg_0 6 rfl rfl)
theorem dX3_chalkPeg_7 : decode cX3_chalkPeg 7 = .ok (.aload_n 3, 1) := dk_45 (dk_at dksX3_chalkPeg_0 7 rfl rfl)
theorem dX3_chalkPeg_8 : decode cX3_chalkPeg 8 = .ok (.getfield 259, 3) := dk_180 1 3 (dk_at dksX3_chalkPeg_0 8 rfl rfl)
theorem dX3_chalkPeg_11 : decode cX3_chalkPeg 11 = .ok (.bipush 9, 2) := dk_16 9 (dk_at dksX3_chalkPeg_0 11 rfl rfl)
theorem dX3_chalkPeg_13 : decode cX3_chalkPeg 13 = .ok (.if_icmp .ge 14, 3) := dk_162 0 14 (dk_at dksX3_chalkPeg_0 13 rfl rfl)
theorem dX3_chalkPeg_16 : decode cX3_chalkPeg 16 = .ok (.aload_n 0, 1) := dk_42 (dk_at dksX3_chalkPeg_0 16 rfl rfl)
theorem dX3_chalkPeg_17 : decode cX3_chalkPeg 17 = .ok (.getfield 46, 3) := dk_180 0 46 (dk_at dksX3_chalkPeg_0 17 rfl rfl)
theorem dX3_chalkPeg_20 : decode cX3_chalkPeg 20 = .ok (.ifCond .le 7, 3) := dk_158 0 7 (dk_at dksX3_chalkPeg_0 20 rfl rfl)
theorem dX3_chalkPeg_23 : decode cX3_chalkPeg 23 = .ok (.iconst 1, 1) := dk_4 (dk_at dksX3_chalkPeg_0 23 rfl rfl)
theorem dX3_chalkPeg_24 : decode cX3_chalkPeg 24 = .ok (.goto 4, 3) := dk_167 0 4 (dk_at dksX3_chalkPeg_1 0 rfl rfl)
theorem dX3_chalkPeg_27 : decode cX3_chalkPeg 27 = .ok (.iconst 0, 1) := dk_3 (dk_at dksX3_chalkPeg_1 3 rfl rfl)
theorem dX3_chalkPeg_28 : decode cX3_chalkPeg 28 = .ok (.invokestatic 172, 3) := dk_184 0 172 (dk_at dksX3_chalkPeg_1 4 rfl rfl)
theorem dX3_chalkPeg_31 : decode cX3_chalkPeg 31 = .ok (.aload_n 3, 1) := dk_45 (dk_at dksX3_chalkPeg_1 7 rfl rfl)
theorem dX3_chalkPeg_32 : decode cX3_chalkPeg 32 = .ok (.bipush 9, 2) := dk_16 9 (dk_at dksX3_chalkPeg_1 8 rfl rfl)
theorem dX3_chalkPeg_34 : decode cX3_chalkPeg 34 = .ok (.putfield 259, 3) := dk_181 1 3 (dk_at dksX3_chalkPeg_1 10 rfl rfl)
theorem dX3_chalkPeg_37 : decode cX3_chalkPeg 37 = .ok (.aload_n 0, 1) := dk_42 (dk_at dksX3_chalkPeg_1 13 rfl rfl)
theorem dX3_chalkPeg_38 : decode cX3_chalkPeg 38 = .ok (.dup, 1) := dk_89 (dk_at dksX3_chalkPeg_1 14 rfl rfl)
theorem dX3_chalkPeg_39 : decode cX3_chalkPeg 39 = .ok (.getfield 46, 3) := dk_180 0 46 (dk_at dksX3_chalkPeg_1 15 rfl rfl)
theorem dX3_chalkPeg_42 : decode cX3_chalkPeg 42 = .ok (.iconst 1, 1) := dk_4 (dk_at dksX3_chalkPeg_1 18 rfl rfl)
theorem dX3_chalkPeg_43 : decode cX3_chalkPeg 43 = .ok (.isub, 1) := dk_100 (dk_at dksX3_chalkPeg_1 19 rfl rfl)
theorem dX3_chalkPeg_44 : decode cX3_chalkPeg 44 = .ok (.putfield 46, 3) := dk_181 0 46 (dk_at dksX3_chalkPeg_1 20 rfl rfl)
theorem dX3_chalkPeg_47 : decode cX3_chalkPeg 47 = .ok (.aload_n 0, 1) := dk_42 (dk_at dksX3_chalkPeg_1 23 rfl rfl)
theorem dX3_chalkPeg_48 : decode cX3_chalkPeg 48 = .ok (.dup, 1) := dk_89 (dk_at dksX3_chalkPeg_2 0 rfl rfl)
theorem dX3_chalkPeg_49 : decode cX3_chalkPeg 49 = .ok (.getfield 73, 3) := dk_180 0 73 (dk_at dksX3_chalkPeg_2 1 rfl rfl)
theorem dX3_chalkPeg_52 : decode cX3_chalkPeg 52 = .ok (.iconst 1, 1) := dk_4 (dk_at dksX3_chalkPeg_2 4 rfl rfl)
theorem dX3_chalkPeg_53 : decode cX3_chalkPeg 53 = .ok (.iadd, 1) := dk_96 (dk_at dksX3_chalkPeg_2 5 rfl rfl)
theorem dX3_chalkPeg_54 : decode cX3_chalkPeg 54 = .ok (.putfield 73, 3) := dk_181 0 73 (dk_at dksX3_chalkPeg_2 6 rfl rfl)
theorem dX3_chalkPeg_57 : decode cX3_chalkPeg 57 = .ok (.aload_n 0, 1) := dk_42 (dk_at dksX3_chalkPeg_2 9 rfl rfl)
theorem dX3_chalkPeg_58 : decode cX3_chalkPeg 58 = .ok (.getfield 46, 3) := dk_180 0 46 (dk_at dksX3_chalkPeg_2 10 rfl rfl)
theorem dX3_chalkPeg_61 : decode cX3_chalkPeg 61 = .ok (.ireturn, 1) := dk_172 (dk_at dksX3_chalkPeg_2 13 rfl rfl)
abbrev iX3_chalkPeg : xM := (yX3_chalkPeg, cX3_chalkPeg, 4, (some .int), [])
theorem mX3_chalkPeg : xOkM iX3_chalkPeg := ⟨by decide +kernel, by decide, q2763, q132⟩
abbrev cX3_replaceString : ByteArray := prog_5_method_19_code
def yX3_replaceString : MethodName := ⟨RX3, "replaceString", "(II)I"⟩
def dkwX3_replaceString_2 : List UInt8 := [100, 181, 0, 49, 42, 89, 180, 0, 76, 4, 96, 181, 0, 76, 42, 180, 0, 49, 172]
abbrev dktX3_replaceString_2 : List UInt8 := dkwX3_replaceString_2 ++ []
def dkwX3_replaceString_1 : List UInt8 := [167, 0, 4, 3, 184, 0, 172, 45, 3, 181, 0, 168, 45, 16, 136, 181, 0, 220, 42, 89, 180, 0, 49, 4]
abbrev dktX3_replaceString_1 : List UInt8 := dkwX3_replaceString_1 ++ dktX3_replaceString_2
def dkwX3_replaceString_0 : List UInt8 := [42, 27, 28, 182, 0, 164, 78, 45, 180, 0, 168, 153, 0, 14, 42, 180, 0, 49, 158, 0, 7, 4]
abbrev dktX3_replaceString_0 : List UInt8 := dkwX3_replaceString_0 ++ dktX3_replaceString_1
theorem dksX3_replaceString_0 : cX3_replaceString.data.toList.drop 0 = dktX3_replaceString_0 := by decide +kernel
theorem dksX3_replaceString_1 : cX3_replaceString.data.toList.drop 22 = dktX3_replaceString_1 := dk_seg dksX3_replaceString_0 22 rfl rfl
theorem dksX3_replaceString_2 : cX3_replaceString.data.toList.drop 46 = dktX3_replaceString_2 := dk_seg dksX3_replaceString_1 24 rfl rfl
theorem dX3_replaceString_0 : decode cX3_replaceString 0 = .ok (.aload_n 0, 1) := dk_42 (dk_at dksX3_replaceString_0 0 rfl rfl)
theorem dX3_replaceString_1 : decode cX3_replaceString 1 = .ok (.iload_n 1, 1) := dk_27 (dk_at dksX3_replaceString_0 1 rfl rfl)
theorem dX3_replaceString_2 : decode cX3_replaceString 2 = .ok (.iload_n 2, 1) := dk_28 (dk_at dksX3_replaceString_0 2 rfl rfl)
theorem dX3_replaceString_3 : decode cX3_replaceString 3 = .ok (.invokevirtual 164, 3) := dk_182 0 164 (dk_at dksX3_replaceString_0 3 rfl rfl)
theorem dX3_replaceString_6 : decode cX3_replaceString 6 = .ok (.astore_n 3, 1) := dk_78 (dk_at dksX3_replaceString_0 6 rfl rfl)
theorem dX3_replaceString_7 : decode cX3_replaceString 7 = .ok (.aload_n 3, 1) := dk_45 (dk_at dksX3_replaceString_0 7 rfl rfl)
theorem dX3_replaceString_8 : decode cX3_replaceString 8 = .ok (.getfield 168, 3) := dk_180 0 168 (dk_at dksX3_replaceString_0 8 rfl rfl)
theorem dX3_replaceString_11 : decode cX3_replaceString 11 = .ok (.ifCond .eq 14, 3) := dk_153 0 14 (dk_at dksX3_replaceString_0 11 rfl rfl)
theorem dX3_replaceString_14 : decode cX3_replaceString 14 = .ok (.aload_n 0, 1) := dk_42 (dk_at dksX3_replaceString_0 14 rfl rfl)
theorem dX3_replaceString_15 : decode cX3_replaceString 15 = .ok (.getfield 49, 3) := dk_180 0 49 (dk_at dksX3_replaceString_0 15 rfl rfl)
theorem dX3_replaceString_18 : decode cX3_replaceString 18 = .ok (.ifCond .le 7, 3) := dk_158 0 7 (dk_at dksX3_replaceString_0 18 rfl rfl)
theorem dX3_replaceString_21 : decode cX3_replaceString 21 = .ok (.iconst 1, 1) := dk_4 (dk_at dksX3_replaceString_0 21 rfl rfl)
theorem dX3_replaceString_22 : decode cX3_replaceString 22 = .ok (.goto 4, 3) := dk_167 0 4 (dk_at dksX3_replaceString_1 0 rfl rfl)
theorem dX3_replaceString_25 : decode cX3_replaceString 25 = .ok (.iconst 0, 1) := dk_3 (dk_at dksX3_replaceString_1 3 rfl rfl)
theorem dX3_replaceString_26 : decode cX3_replaceString 26 = .ok (.invokestatic 172, 3) := dk_184 0 172 (dk_at dksX3_replaceString_1 4 rfl rfl)
theorem dX3_replaceString_29 : decode cX3_replaceString 29 = .ok (.aload_n 3, 1) := dk_45 (dk_at dksX3_replaceString_1 7 rfl rfl)
theorem dX3_replaceString_30 : decode cX3_replaceString 30 = .ok (.iconst 0, 1) := dk_3 (dk_at dksX3_replaceString_1 8 rfl rfl)
theorem dX3_replaceString_31 : decode cX3_replaceString 31 = .ok (.putfield 168, 3) := dk_181 0 168 (dk_at dksX3_replaceString_1 9 rfl rfl)
theorem dX3_replaceString_34 : decode cX3_replaceString 34 = .ok (.aload_n 3, 1) := dk_45 (dk_at dksX3_replaceString_1 12 rfl rfl)
theorem dX3_replaceString_35 : decode cX3_replaceString 35 = .ok (.bipush (-120), 2) := dk_16 136 (dk_at dksX3_replaceString_1 13 rfl rfl)
theorem dX3_replaceString_37 : decode cX3_replaceString 37 = .ok (.putfield 220, 3) := dk_181 0 220 (dk_at dksX3_replaceString_1 15 rfl rfl)
theorem dX3_replaceString_40 : decode cX3_replaceString 40 = .ok (.aload_n 0, 1) := dk_42 (dk_at dksX3_replaceString_1 18 rfl rfl)
theorem dX3_replaceString_41 : decode cX3_replaceString 41 = .ok (.dup, 1) := dk_89 (dk_at dksX3_replaceString_1 19 rfl rfl)
theorem dX3_replaceString_42 : decode cX3_replaceString 42 = .ok (.getfield 49, 3) := dk_180 0 49 (dk_at dksX3_replaceString_1 20 rfl rfl)
theorem dX3_replaceString_45 : decode cX3_replaceString 45 = .ok (.iconst 1, 1) := dk_4 (dk_at dksX3_replaceString_1 23 rfl rfl)
theorem dX3_replaceString_46 : decode cX3_replaceString 46 = .ok (.isub, 1) := dk_100 (dk_at dksX3_replaceString_2 0 rfl rfl)
theorem dX3_replaceString_47 : decode cX3_replaceString 47 = .ok (.putfield 49, 3) := dk_181 0 49 (dk_at dksX3_replaceString_2 1 rfl rfl)
theorem dX3_replaceString_50 : decode cX3_replaceString 50 = .ok (.aload_n 0, 1) := dk_42 (dk_at dksX3_replaceString_2 4 rfl rfl)
theorem dX3_replaceString_51 : decode cX3_replaceString 51 = .ok (.dup, 1) := dk_89 (dk_at dksX3_replaceString_2 5 rfl rfl)
theorem dX3_replaceString_52 : decode cX3_replaceString 52 = .ok (.getfield 76, 3) := dk_180 0 76 (dk_at dksX3_replaceString_2 6 rfl rfl)
theorem dX3_replaceString_55 : decode cX3_replaceString 55 = .ok (.iconst 1, 1) := dk_4 (dk_at dksX3_replaceString_2 9 rfl rfl)
theorem dX3_replaceString_56 : decode cX3_replaceString 56 = .ok (.iadd, 1) := dk_96 (dk_at dksX3_replaceString_2 10 rfl rfl)
theorem dX3_replaceString_57 : decode cX3_replaceString 57 = .ok (.putfield 76, 3) := dk_181 0 76 (dk_at dksX3_replaceString_2 11 rfl rfl)
theorem dX3_replaceString_60 : decode cX3_replaceString 60 = .ok (.aload_n 0, 1) := dk_42 (dk_at dksX3_replaceString_2 14 rfl rfl)
theorem dX3_replaceString_61 : decode cX3_replaceString 61 = .ok (.getfield 49, 3) := dk_180 0 49 (dk_at dksX3_replaceString_2 15 rfl rfl)
theorem dX3_replaceString_64 : decode cX3_replaceString 64 = .ok (.ireturn, 1) := dk_172 (dk_at dksX3_replaceString_2 18 rfl rfl)
abbrev iX3_replaceString : xM := (yX3_replaceString, cX3_replaceString, 4, (some .int), [])
theorem mX3_replaceString : xOkM iX3_replaceString := ⟨by decide +kernel, by decide, q2767, q132⟩
abbrev cX3_swapPlaces : ByteArray := prog_5_method_20_code
def yX3_swapPlaces : MethodName := ⟨RX3, "swapPlaces", "(II)I"⟩
def dkwX3_swapPlaces_4 : List UInt8 := [172]
abbrev dktX3_swapPlaces_4 : List UInt8 := dkwX3_swapPlaces_4 ++ []
def dkwX3_swapPlaces_3 : List UInt8 := [182, 1, 13, 192, 0, 99, 78, 42, 180, 0, 22, 21, 6, 45, 182, 1, 13, 192, 0, 99, 58, 4, 21, 6]
abbrev dktX3_swapPlaces_3 : List UInt8 := dkwX3_swapPlaces_3 ++ dktX3_swapPlaces_4
def dkwX3_swapPlaces_2 : List UInt8 := [21, 6, 2, 159, 0, 7, 4, 167, 0, 4, 3, 184, 0, 172, 42, 180, 0, 22, 21, 5, 25, 4]
abbrev dktX3_swapPlaces_2 : List UInt8 := dkwX3_swapPlaces_2 ++ dktX3_swapPlaces_3
def dkwX3_swapPlaces_1 : List UInt8 := [184, 1, 0, 42, 27, 182, 1, 10, 54, 5, 42, 28, 182, 1, 10, 54, 6, 21, 5, 2, 159, 0, 13]
abbrev dktX3_swapPlaces_1 : List UInt8 := dkwX3_swapPlaces_1 ++ dktX3_swapPlaces_2
def dkwX3_swapPlaces_0 : List UInt8 := [42, 27, 182, 1, 6, 78, 42, 28, 182, 1, 6, 58, 4, 27, 28, 159, 0, 7, 4, 167, 0, 4, 3]
abbrev dktX3_swapPlaces_0 : List UInt8 := dkwX3_swapPlaces_0 ++ dktX3_swapPlaces_1
theorem dksX3_swapPlaces_0 : cX3_swapPlaces.data.toList.drop 0 = dktX3_swapPlaces_0 := by decide +kernel
theorem dksX3_swapPlaces_1 : cX3_swapPlaces.data.toList.drop 23 = dktX3_swapPlaces_1 := dk_seg dksX3_swapPlaces_0 23 rfl rfl
theorem dksX3_swapPlaces_2 : cX3_swapPlaces.data.toList.drop 46 = dktX3_swapPlaces_2 := dk_seg dksX3_swapPlaces_1 23 rfl rfl
theorem dksX3_swapPlaces_3 : cX3_swapPlaces.data.toList.drop 68 = dktX3_swapPlaces_3 := dk_seg dksX3_swapPlaces_2 22 rfl rfl
theorem dksX3_swapPlaces_4 : cX3_swapPlaces.data.toList.drop 92 = dktX3_swapPlaces_4 := dk_seg dksX3_swapPlaces_3 24 rfl rfl
theorem dX3_swapPlaces_0 : decode cX3_swapPlaces 0 = .ok (.aload_n 0, 1) := dk_42 (dk_at dksX3_swapPlaces_0 0 rfl rfl)
theorem dX3_swapPlaces_1 : decode cX3_swapPlaces 1 = .ok (.iload_n 1, 1) := dk_27 (dk_at dksX3_swapPlaces_0 1 rfl rfl)
theorem dX3_swapPlaces_2 : decode cX3_swapPlaces 2 = .ok (.invokevirtual 262, 3) := dk_182 1 6 (dk_at dksX3_swapPlaces_0 2 rfl rfl)
theorem dX3_swapPlaces_5 : decode cX3_swapPlaces 5 = .ok (.astore_n 3, 1) := dk_78 (dk_at dksX3_swapPlaces_0 5 rfl rfl)
theorem dX3_swapPlaces_6 : decode cX3_swapPlaces 6 = .ok (.aload_n 0, 1) := dk_42 (dk_at dksX3_swapPlaces_0 6 rfl rfl)
theorem dX3_swapPlaces_7 : decode cX3_swapPlaces 7 = .ok (.iload_n 2, 1) := dk_28 (dk_at dksX3_swapPlaces_0 7 rfl rfl)
theorem dX3_swapPlaces_8 : decode cX3_swapPlaces 8 = .ok (.invokevirtual 262, 3) := dk_182 1 6 (dk_at dksX3_swapPlaces_0 8 rfl rfl)
theorem dX3_swapPlaces_11 : decode cX3_swapPlaces 11 = .ok (.astore 4, 2) := dk_58 4 (dk_at dksX3_swapPlaces_0 11 rfl rfl)
theorem dX3_swapPlaces_13 : decode cX3_swapPlaces 13 = .ok (.iload_n 1, 1) := dk_27 (dk_at dksX3_swapPlaces_0 13 rfl rfl)
theorem dX3_swapPlaces_14 : decode cX3_swapPlaces 14 = .ok (.iload_n 2, 1) := dk_28 (dk_at dksX3_swapPlaces_0 14 rfl rfl)
theorem dX3_swapPlaces_15 : decode cX3_swapPlaces 15 = .ok (.if_icmp .eq 7, 3) := dk_159 0 7 (dk_at dksX3_swapPlaces_0 15 rfl rfl)
theorem dX3_swapPlaces_18 : decode cX3_swapPlaces 18 = .ok (.iconst 1, 1) := dk_4 (dk_at dksX3_swapPlaces_0 18 rfl rfl)
theorem dX3_swapPlaces_19 : decode cX3_swapPlaces 19 = .ok (.goto 4, 3) := dk_167 0 4 (dk_at dksX3_swapPlaces_0 19 rfl rfl)
theorem dX3_swapPlaces_22 : decode cX3_swapPlaces 22 = .ok (.iconst 0, 1) := dk_3 (dk_at dksX3_swapPlaces_0 22 rfl rfl)
theorem dX3_swapPlaces_23 : decode cX3_swapPlaces 23 = .ok (.invokestatic 256, 3) := dk_184 1 0 (dk_at dksX3_swapPlaces_1 0 rfl rfl)
theorem dX3_swapPlaces_26 : decode cX3_swapPlaces 26 = .ok (.aload_n 0, 1) := dk_42 (dk_at dksX3_swapPlaces_1 3 rfl rfl)
theorem dX3_swapPlaces_27 : decode cX3_swapPlaces 27 = .ok (.iload_n 1, 1) := dk_27 (dk_at dksX3_swapPlaces_1 4 rfl rfl)
theorem dX3_swapPlaces_28 : decode cX3_swapPlaces 28 = .ok (.invokevirtual 266, 3) := dk_182 1 10 (dk_at dksX3_swapPlaces_1 5 rfl rfl)
theorem dX3_swapPlaces_31 : decode cX3_swapPlaces 31 = .ok (.istore 5, 2) := dk_54 5 (dk_at dksX3_swapPlaces_1 8 rfl rfl)
theorem dX3_swapPlaces_33 : decode cX3_swapPlaces 33 = .ok (.aload_n 0, 1) := dk_42 (dk_at dksX3_swapPlaces_1 10 rfl rfl)
theorem dX3_swapPlaces_34 : decode cX3_swapPlaces 34 = .ok (.iload_n 2, 1) := dk_28 (dk_at dksX3_swapPlaces_1 11 rfl rfl)
theorem dX3_swapPlaces_35 : decode cX3_swapPlaces 35 = .ok (.invokevirtual 266, 3) := dk_182 1 10 (dk_at dksX3_swapPlaces_1 12 rfl rfl)
theorem dX3_swapPlaces_38 : decode cX3_swapPlaces 38 = .ok (.istore 6, 2) := dk_54 6 (dk_at dksX3_swapPlaces_1 15 rfl rfl)
theorem dX3_swapPlaces_40 : decode cX3_swapPlaces 40 = .ok (.iload 5, 2) := dk_21 5 (dk_at dksX3_swapPlaces_1 17 rfl rfl)
theorem dX3_swapPlaces_42 : decode cX3_swapPlaces 42 = .ok (.iconst (-1), 1) := dk_2 (dk_at dksX3_swapPlaces_1 19 rfl rfl)
theorem dX3_swapPlaces_43 : decode cX3_swapPlaces 43 = .ok (.if_icmp .eq 13, 3) := dk_159 0 13 (dk_at dksX3_swapPlaces_1 20 rfl rfl)
theorem dX3_swapPlaces_46 : decode cX3_swapPlaces 46 = .ok (.iload 6, 2) := dk_21 6 (dk_at dksX3_swapPlaces_2 0 rfl rfl)
theorem dX3_swapPlaces_48 : decode cX3_swapPlaces 48 = .ok (.iconst (-1), 1) := dk_2 (dk_at dksX3_swapPlaces_2 2 rfl rfl)
theorem dX3_swapPlaces_49 : decode cX3_swapPlaces 49 = .ok (.if_icmp .eq 7, 3) := dk_159 0 7 (dk_at dksX3_swapPlaces_2 3 rfl rfl)
theorem dX3_swapPlaces_52 : decode cX3_swapPlaces 52 = .ok (.iconst 1, 1) := dk_4 (dk_at dksX3_swapPlaces_2 6 rfl rfl)
theorem dX3_swapPlaces_53 : decode cX3_swapPlaces 53 = .ok (.goto 4, 3) := dk_167 0 4 (dk_at dksX3_swapPlaces_2 7 rfl rfl)
theorem dX3_swapPlaces_56 : decode cX3_swapPlaces 56 = .ok (.iconst 0, 1) := dk_3 (dk_at dksX3_swapPlaces_2 10 rfl rfl)
theorem dX3_swapPlaces_57 : decode cX3_swapPlaces 57 = .ok (.invokestatic 172, 3) := dk_184 0 172 (dk_at dksX3_swapPlaces_2 11 rfl rfl)
theorem dX3_swapPlaces_60 : decode cX3_swapPlaces 60 = .ok (.aload_n 0, 1) := dk_42 (dk_at dksX3_swapPlaces_2 14 rfl rfl)
theorem dX3_swapPlaces_61 : decode cX3_swapPlaces 61 = .ok (.getfield 22, 3) := dk_180 0 22 (dk_at dksX3_swapPlaces_2 15 rfl rfl)
theorem dX3_swapPlaces_64 : decode cX3_swapPlaces 64 = .ok (.iload 5, 2) := dk_21 5 (dk_at dksX3_swapPlaces_2 18 rfl rfl)
theorem dX3_swapPlaces_66 : decode cX3_swapPlaces 66 = .ok (.aload 4, 2) := dk_25 4 (dk_at dksX3_swapPlaces_2 20 rfl rfl)
theorem dX3_swapPlaces_68 : decode cX3_swapPlaces 68 = .ok (.invokevirtual 269, 3) := dk_182 1 13 (dk_at dksX3_swapPlaces_3 0 rfl rfl)
theorem dX3_swapPlaces_71 : decode cX3_swapPlaces 71 = .ok (.checkcast 99, 3) := dk_192 0 99 (dk_at dksX3_swapPlaces_3 3 rfl rfl)
theorem dX3_swapPlaces_74 : decode cX3_swapPlaces 74 = .ok (.astore_n 3, 1) := dk_78 (dk_at dksX3_swapPlaces_3 6 rfl rfl)
theorem dX3_swapPlaces_75 : decode cX3_swapPlaces 75 = .ok (.aload_n 0, 1) := dk_42 (dk_at dksX3_swapPlaces_3 7 rfl rfl)
theorem dX3_swapPlaces_76 : decode cX3_swapPlaces 76 = .ok (.getfield 22, 3) := dk_180 0 22 (dk_at dksX3_swapPlaces_3 8 rfl rfl)
theorem dX3_swapPlaces_79 : decode cX3_swapPlaces 79 = .ok (.iload 6, 2) := dk_21 6 (dk_at dksX3_swapPlaces_3 11 rfl rfl)
theorem dX3_swapPlaces_81 : decode cX3_swapPlaces 81 = .ok (.aload_n 3, 1) := dk_45 (dk_at dksX3_swapPlaces_3 13 rfl rfl)
theorem dX3_swapPlaces_82 : decode cX3_swapPlaces 82 = .ok (.invokevirtual 269, 3) := dk_182 1 13 (dk_at dksX3_swapPlaces_3 14 rfl rfl)
theorem dX3_swapPlaces_85 : decode cX3_swapPlaces 85 = .ok (.checkcast 99, 3) := dk_192 0 99 (dk_at dksX3_swapPlaces_3 17 rfl rfl)
theorem dX3_swapPlaces_88 : decode cX3_swapPlaces 88 = .ok (.astore 4, 2) := dk_58 4 (dk_at dksX3_swapPlaces_3 20 rfl rfl)
theorem dX3_swapPlaces_90 : decode cX3_swapPlaces 90 = .ok (.iload 6, 2) := dk_21 6 (dk_at dksX3_swapPlaces_3 22 rfl rfl)
theorem dX3_swapPlaces_92 : decode cX3_swapPlaces 92 = .ok (.ireturn, 1) := dk_172 (dk_at dksX3_swapPlaces_4 0 rfl rfl)
abbrev iX3_swapPlaces : xM := (yX3_swapPlaces, cX3_swapPlaces, 7, (some .int), [])
theorem mX3_swapPlaces : xOkM iX3_swapPlaces := ⟨by decide +kernel, by decide, q2771, q132⟩
abbrev cX3_fiddler : ByteArray := prog_5_method_4_code
def yX3_fiddler : MethodName := ⟨RX3, "fiddler", "(I)LFiddleRow$Fiddler;"⟩
def dkwX3_fiddler_1 : List UInt8 := [182, 0, 111, 192, 0, 99, 176]
abbrev dktX3_fiddler_1 : List UInt8 := dkwX3_fiddler_1 ++ []
def dkwX3_fiddler_0 : List UInt8 := [27, 3, 42, 180, 0, 18, 182, 0, 146, 4, 100, 184, 0, 150, 184, 0, 154, 42, 180, 0, 18, 27]
abbrev dktX3_fiddler_0 : List UInt8 := dkwX3_fiddler_0 ++ dktX3_fiddler_1
theorem dksX3_fiddler_0 : cX3_fiddler.data.toList.drop 0 = dktX3_fiddler_0 := by decide +kernel
theorem dksX3_fiddler_1 : cX3_fiddler.data.toList.drop 22 = dktX3_fiddler_1 := dk_seg dksX3_fiddler_0 22 rfl rfl
theorem dX3_fiddler_0 : decode cX3_fiddler 0 = .ok (.iload_n 1, 1) := dk_27 (dk_at dksX3_fiddler_0 0 rfl rfl)
theorem dX3_fiddler_1 : decode cX3_fiddler 1 = .ok (.iconst 0, 1) := dk_3 (dk_at dksX3_fiddler_0 1 rfl rfl)
theorem dX3_fiddler_2 : decode cX3_fiddler 2 = .ok (.aload_n 0, 1) := dk_42 (dk_at dksX3_fiddler_0 2 rfl rfl)
theorem dX3_fiddler_3 : decode cX3_fiddler 3 = .ok (.getfield 18, 3) := dk_180 0 18 (dk_at dksX3_fiddler_0 3 rfl rfl)
theorem dX3_fiddler_6 : decode cX3_fiddler 6 = .ok (.invokevirtual 146, 3) := dk_182 0 146 (dk_at dksX3_fiddler_0 6 rfl rfl)
theorem dX3_fiddler_9 : decode cX3_fiddler 9 = .ok (.iconst 1, 1) := dk_4 (dk_at dksX3_fiddler_0 9 rfl rfl)
theorem dX3_fiddler_10 : decode cX3_fiddler 10 = .ok (.isub, 1) := dk_100 (dk_at dksX3_fiddler_0 10 rfl rfl)
theorem dX3_fiddler_11 : decode cX3_fiddler 11 = .ok (.invokestatic 150, 3) := dk_184 0 150 (dk_at dksX3_fiddler_0 11 rfl rfl)
theorem dX3_fiddler_14 : decode cX3_fiddler 14 = .ok (.invokestatic 154, 3) := dk_184 0 154 (dk_at dksX3_fiddler_0 14 rfl rfl)
theorem dX3_fiddler_17 : decode cX3_fiddler 17 = .ok (.aload_n 0, 1) := dk_42 (dk_at dksX3_fiddler_0 17 rfl rfl)
theorem dX3_fiddler_18 : decode cX3_fiddler 18 = .ok (.getfield 18, 3) := dk_180 0 18 (dk_at dksX3_fiddler_0 18 rfl rfl)
theorem dX3_fiddler_21 : decode cX3_fiddler 21 = .ok (.iload_n 1, 1) := dk_27 (dk_at dksX3_fiddler_0 21 rfl rfl)
theorem dX3_fiddler_22 : decode cX3_fiddler 22 = .ok (.invokevirtual 111, 3) := dk_182 0 111 (dk_at dksX3_fiddler_1 0 rfl rfl)
theorem dX3_fiddler_25 : decode cX3_fiddler 25 = .ok (.checkcast 99, 3) := dk_192 0 99 (dk_at dksX3_fiddler_1 3 rfl rfl)
theorem dX3_fiddler_28 : decode cX3_fiddler 28 = .ok (.areturn, 1) := dk_176 (dk_at dksX3_fiddler_1 6 rfl rfl)
abbrev iX3_fiddler : xM := (yX3_fiddler, cX3_fiddler, 2, (some (.object "FiddleRow$Fiddler")), [])
theorem mX3_fiddler : xOkM iX3_fiddler := ⟨by decide +kernel, by decide, q2775, q132⟩
abbrev cX3_placeOf : ByteArray := prog_5_method_8_code
def yX3_placeOf : MethodName := ⟨RX3, "placeOf", "(I)I"⟩
def dkwX3_placeOf_1 : List UInt8 := [180, 0, 108, 27, 160, 0, 5, 28, 172, 132, 2, 1, 167, 255, 222, 2, 172]
abbrev dktX3_placeOf_1 : List UInt8 := dkwX3_placeOf_1 ++ []
def dkwX3_placeOf_0 : List UInt8 := [3, 61, 28, 42, 180, 0, 22, 182, 0, 146, 162, 0, 29, 42, 180, 0, 22, 28, 182, 0, 111, 192, 0, 99]
abbrev dktX3_placeOf_0 : List UInt8 := dkwX3_placeOf_0 ++ dktX3_placeOf_1
theorem dksX3_placeOf_0 : cX3_placeOf.data.toList.drop 0 = dktX3_placeOf_0 := by decide +kernel
theorem dksX3_placeOf_1 : cX3_placeOf.data.toList.drop 24 = dktX3_placeOf_1 := dk_seg dksX3_placeOf_0 24 rfl rfl
theorem dX3_placeOf_0 : decode cX3_placeOf 0 = .ok (.iconst 0, 1) := dk_3 (dk_at dksX3_placeOf_0 0 rfl rfl)
theorem dX3_placeOf_1 : decode cX3_placeOf 1 = .ok (.istore_n 2, 1) := dk_61 (dk_at dksX3_placeOf_0 1 rfl rfl)
theorem dX3_placeOf_2 : decode cX3_placeOf 2 = .ok (.iload_n 2, 1) := dk_28 (dk_at dksX3_placeOf_0 2 rfl rfl)
theorem dX3_placeOf_3 : decode cX3_placeOf 3 = .ok (.aload_n 0, 1) := dk_42 (dk_at dksX3_placeOf_0 3 rfl rfl)
theorem dX3_placeOf_4 : decode cX3_placeOf 4 = .ok (.getfield 22, 3) := dk_180 0 22 (dk_at dksX3_placeOf_0 4 rfl rfl)
theorem dX3_placeOf_7 : decode cX3_placeOf 7 = .ok (.invokevirtual 146, 3) := dk_182 0 146 (dk_at dksX3_placeOf_0 7 rfl rfl)
theorem dX3_placeOf_10 : decode cX3_placeOf 10 = .ok (.if_icmp .ge 29, 3) := dk_162 0 29 (dk_at dksX3_placeOf_0 10 rfl rfl)
theorem dX3_placeOf_13 : decode cX3_placeOf 13 = .ok (.aload_n 0, 1) := dk_42 (dk_at dksX3_placeOf_0 13 rfl rfl)
theorem dX3_placeOf_14 : decode cX3_placeOf 14 = .ok (.getfield 22, 3) := dk_180 0 22 (dk_at dksX3_placeOf_0 14 rfl rfl)
theorem dX3_placeOf_17 : decode cX3_placeOf 17 = .ok (.iload_n 2, 1) := dk_28 (dk_at dksX3_placeOf_0 17 rfl rfl)
theorem dX3_placeOf_18 : decode cX3_placeOf 18 = .ok (.invokevirtual 111, 3) := dk_182 0 111 (dk_at dksX3_placeOf_0 18 rfl rfl)
theorem dX3_placeOf_21 : decode cX3_placeOf 21 = .ok (.checkcast 99, 3) := dk_192 0 99 (dk_at dksX3_placeOf_0 21 rfl rfl)
theorem dX3_placeOf_24 : decode cX3_placeOf 24 = .ok (.getfield 108, 3) := dk_180 0 108 (dk_at dksX3_placeOf_1 0 rfl rfl)
theorem dX3_placeOf_27 : decode cX3_placeOf 27 = .ok (.iload_n 1, 1) := dk_27 (dk_at dksX3_placeOf_1 3 rfl rfl)
theorem dX3_placeOf_28 : decode cX3_placeOf 28 = .ok (.if_icmp .ne 5, 3) := dk_160 0 5 (dk_at dksX3_placeOf_1 4 rfl rfl)
theorem dX3_placeOf_31 : decode cX3_placeOf 31 = .ok (.iload_n 2, 1) := dk_28 (dk_at dksX3_placeOf_1 7 rfl rfl)
theorem dX3_placeOf_32 : decode cX3_placeOf 32 = .ok (.ireturn, 1) := dk_172 (dk_at dksX3_placeOf_1 8 rfl rfl)
theorem dX3_placeOf_33 : decode cX3_placeOf 33 = .ok (.iinc 2 1, 3) := dk_132 2 1 (dk_at dksX3_placeOf_1 9 rfl rfl)
theorem dX3_placeOf_36 : decode cX3_placeOf 36 = .ok (.goto (-34), 3) := dk_167 255 222 (dk_at dksX3_placeOf_1 12 rfl rfl)
theorem dX3_placeOf_39 : decode cX3_placeOf 39 = .ok (.iconst (-1), 1) := dk_2 (dk_at dksX3_placeOf_1 15 rfl rfl)
theorem dX3_placeOf_40 : decode cX3_placeOf 40 = .ok (.ireturn, 1) := dk_172 (dk_at dksX3_placeOf_1 16 rfl rfl)
abbrev iX3_placeOf : xM := (yX3_placeOf, cX3_placeOf, 3, (some .int), [])
theorem mX3_placeOf : xOkM iX3_placeOf := ⟨by decide +kernel, by decide, q2779, q132⟩
abbrev cX3_leaveRow : ByteArray := prog_5_method_21_code
def yX3_leaveRow : MethodName := ⟨RX3, "leaveRow", "(I)I"⟩
def dkwX3_leaveRow_1 : List UInt8 := [184, 0, 172, 42, 180, 0, 22, 29, 182, 1, 17, 192, 0, 99, 77, 42, 180, 0, 22, 182, 0, 146, 172]
abbrev dktX3_leaveRow_1 : List UInt8 := dkwX3_leaveRow_1 ++ []
def dkwX3_leaveRow_0 : List UInt8 := [42, 27, 182, 1, 6, 77, 42, 27, 182, 1, 10, 62, 29, 2, 159, 0, 7, 4, 167, 0, 4, 3]
abbrev dktX3_leaveRow_0 : List UInt8 := dkwX3_leaveRow_0 ++ dktX3_leaveRow_1
theorem dksX3_leaveRow_0 : cX3_leaveRow.data.toList.drop 0 = dktX3_leaveRow_0 := by decide +kernel
theorem dksX3_leaveRow_1 : cX3_leaveRow.data.toList.drop 22 = dktX3_leaveRow_1 := dk_seg dksX3_leaveRow_0 22 rfl rfl
theorem dX3_leaveRow_0 : decode cX3_leaveRow 0 = .ok (.aload_n 0, 1) := dk_42 (dk_at dksX3_leaveRow_0 0 rfl rfl)
theorem dX3_leaveRow_1 : decode cX3_leaveRow 1 = .ok (.iload_n 1, 1) := dk_27 (dk_at dksX3_leaveRow_0 1 rfl rfl)
theorem dX3_leaveRow_2 : decode cX3_leaveRow 2 = .ok (.invokevirtual 262, 3) := dk_182 1 6 (dk_at dksX3_leaveRow_0 2 rfl rfl)
theorem dX3_leaveRow_5 : decode cX3_leaveRow 5 = .ok (.astore_n 2, 1) := dk_77 (dk_at dksX3_leaveRow_0 5 rfl rfl)
theorem dX3_leaveRow_6 : decode cX3_leaveRow 6 = .ok (.aload_n 0, 1) := dk_42 (dk_at dksX3_leaveRow_0 6 rfl rfl)
theorem dX3_leaveRow_7 : decode cX3_leaveRow 7 = .ok (.iload_n 1, 1) := dk_27 (dk_at dksX3_leaveRow_0 7 rfl rfl)
theorem dX3_leaveRow_8 : decode cX3_leaveRow 8 = .ok (.invokevirtual 266, 3) := dk_182 1 10 (dk_at dksX3_leaveRow_0 8 rfl rfl)
theorem dX3_leaveRow_11 : decode cX3_leaveRow 11 = .ok (.istore_n 3, 1) := dk_62 (dk_at dksX3_leaveRow_0 11 rfl rfl)
theorem dX3_leaveRow_12 : decode cX3_leaveRow 12 = .ok (.iload_n 3, 1) := dk_29 (dk_at dksX3_leaveRow_0 12 rfl rfl)
theorem dX3_leaveRow_13 : decode cX3_leaveRow 13 = .ok (.iconst (-1), 1) := dk_2 (dk_at dksX3_leaveRow_0 13 rfl rfl)
theorem dX3_leaveRow_14 : decode cX3_leaveRow 14 = .ok (.if_icmp .eq 7, 3) := dk_159 0 7 (dk_at dksX3_leaveRow_0 14 rfl rfl)
theorem dX3_leaveRow_17 : decode cX3_leaveRow 17 = .ok (.iconst 1, 1) := dk_4 (dk_at dksX3_leaveRow_0 17 rfl rfl)
theorem dX3_leaveRow_18 : decode cX3_leaveRow 18 = .ok (.goto 4, 3) := dk_167 0 4 (dk_at dksX3_leaveRow_0 18 rfl rfl)
theorem dX3_leaveRow_21 : decode cX3_leaveRow 21 = .ok (.iconst 0, 1) := dk_3 (dk_at dksX3_leaveRow_0 21 rfl rfl)
theorem dX3_leaveRow_22 : decode cX3_leaveRow 22 = .ok (.invokestatic 172, 3) := dk_184 0 172 (dk_at dksX3_leaveRow_1 0 rfl rfl)
theorem dX3_leaveRow_25 : decode cX3_leaveRow 25 = .ok (.aload_n 0, 1) := dk_42 (dk_at dksX3_leaveRow_1 3 rfl rfl)
theorem dX3_leaveRow_26 : decode cX3_leaveRow 26 = .ok (.getfield 22, 3) := dk_180 0 22 (dk_at dksX3_leaveRow_1 4 rfl rfl)
theorem dX3_leaveRow_29 : decode cX3_leaveRow 29 = .ok (.iload_n 3, 1) := dk_29 (dk_at dksX3_leaveRow_1 7 rfl rfl)
theorem dX3_leaveRow_30 : decode cX3_leaveRow 30 = .ok (.invokevirtual 273, 3) := dk_182 1 17 (dk_at dksX3_leaveRow_1 8 rfl rfl)
theorem dX3_leaveRow_33 : decode cX3_leaveRow 33 = .ok (.checkcast 99, 3) := dk_192 0 99 (dk_at dksX3_leaveRow_1 11 rfl rfl)
theorem dX3_leaveRow_36 : decode cX3_leaveRow 36 = .ok (.astore_n 2, 1) := dk_77 (dk_at dksX3_leaveRow_1 14 rfl rfl)
theorem dX3_leaveRow_37 : decode cX3_leaveRow 37 = .ok (.aload_n 0, 1) := dk_42 (dk_at dksX3_leaveRow_1 15 rfl rfl)
theorem dX3_leaveRow_38 : decode cX3_leaveRow 38 = .ok (.getfield 22, 3) := dk_180 0 22 (dk_at dksX3_leaveRow_1 16 rfl rfl)
theorem dX3_leaveRow_41 : decode cX3_leaveRow 41 = .ok (.invokevirtual 146, 3) := dk_182 0 146 (dk_at dksX3_leaveRow_1 19 rfl rfl)
theorem dX3_leaveRow_44 : decode cX3_leaveRow 44 = .ok (.ireturn, 1) := dk_172 (dk_at dksX3_leaveRow_1 22 rfl rfl)
abbrev iX3_leaveRow : xM := (yX3_leaveRow, cX3_leaveRow, 4, (some .int), [])
theorem mX3_leaveRow : xOkM iX3_leaveRow := ⟨by decide +kernel, by decide, q2787, q132⟩
abbrev cX3_joinRow : ByteArray := prog_5_method_22_code
def yX3_joinRow : MethodName := ⟨RX3, "joinRow", "(I)I"⟩
def dkwX3_joinRow_1 : List UInt8 := [180, 0, 22, 44, 182, 0, 104, 87, 42, 180, 0, 22, 182, 0, 146, 4, 100, 172]
abbrev dktX3_joinRow_1 : List UInt8 := dkwX3_joinRow_1 ++ []
def dkwX3_joinRow_0 : List UInt8 := [42, 27, 182, 1, 6, 77, 42, 27, 182, 1, 10, 2, 160, 0, 7, 4, 167, 0, 4, 3, 184, 0, 172, 42]
abbrev dktX3_joinRow_0 : List UInt8 := dkwX3_joinRow_0 ++ dktX3_joinRow_1
theorem dksX3_joinRow_0 : cX3_joinRow.data.toList.drop 0 = dktX3_joinRow_0 := by decide +kernel
theorem dksX3_joinRow_1 : cX3_joinRow.data.toList.drop 24 = dktX3_joinRow_1 := dk_seg dksX3_joinRow_0 24 rfl rfl
theorem dX3_joinRow_0 : decode cX3_joinRow 0 = .ok (.aload_n 0, 1) := dk_42 (dk_at dksX3_joinRow_0 0 rfl rfl)
theorem dX3_joinRow_1 : decode cX3_joinRow 1 = .ok (.iload_n 1, 1) := dk_27 (dk_at dksX3_joinRow_0 1 rfl rfl)
theorem dX3_joinRow_2 : decode cX3_joinRow 2 = .ok (.invokevirtual 262, 3) := dk_182 1 6 (dk_at dksX3_joinRow_0 2 rfl rfl)
theorem dX3_joinRow_5 : decode cX3_joinRow 5 = .ok (.astore_n 2, 1) := dk_77 (dk_at dksX3_joinRow_0 5 rfl rfl)
theorem dX3_joinRow_6 : decode cX3_joinRow 6 = .ok (.aload_n 0, 1) := dk_42 (dk_at dksX3_joinRow_0 6 rfl rfl)
theorem dX3_joinRow_7 : decode cX3_joinRow 7 = .ok (.iload_n 1, 1) := dk_27 (dk_at dksX3_joinRow_0 7 rfl rfl)
theorem dX3_joinRow_8 : decode cX3_joinRow 8 = .ok (.invokevirtual 266, 3) := dk_182 1 10 (dk_at dksX3_joinRow_0 8 rfl rfl)
theorem dX3_joinRow_11 : decode cX3_joinRow 11 = .ok (.iconst (-1), 1) := dk_2 (dk_at dksX3_joinRow_0 11 rfl rfl)
theorem dX3_joinRow_12 : decode cX3_joinRow 12 = .ok (.if_icmp .ne 7, 3) := dk_160 0 7 (dk_at dksX3_joinRow_0 12 rfl rfl)
theorem dX3_joinRow_15 : decode cX3_joinRow 15 = .ok (.iconst 1, 1) := dk_4 (dk_at dksX3_joinRow_0 15 rfl rfl)
theorem dX3_joinRow_16 : decode cX3_joinRow 16 = .ok (.goto 4, 3) := dk_167 0 4 (dk_at dksX3_joinRow_0 16 rfl rfl)
theorem dX3_joinRow_19 : decode cX3_joinRow 19 = .ok (.iconst 0, 1) := dk_3 (dk_at dksX3_joinRow_0 19 rfl rfl)
theorem dX3_joinRow_20 : decode cX3_joinRow 20 = .ok (.invokestatic 172, 3) := dk_184 0 172 (dk_at dksX3_joinRow_0 20 rfl rfl)
theorem dX3_joinRow_23 : decode cX3_joinRow 23 = .ok (.aload_n 0, 1) := dk_42 (dk_at dksX3_joinRow_0 23 rfl rfl)
theorem dX3_joinRow_24 : decode cX3_joinRow 24 = .ok (.getfield 22, 3) := dk_180 0 22 (dk_at dksX3_joinRow_1 0 rfl rfl)
theorem dX3_joinRow_27 : decode cX3_joinRow 27 = .ok (.aload_n 2, 1) := dk_44 (dk_at dksX3_joinRow_1 3 rfl rfl)
theorem dX3_joinRow_28 : decode cX3_joinRow 28 = .ok (.invokevirtual 104, 3) := dk_182 0 104 (dk_at dksX3_joinRow_1 4 rfl rfl)
theorem dX3_joinRow_31 : decode cX3_joinRow 31 = .ok (.pop, 1) := dk_87 (dk_at dksX3_joinRow_1 7 rfl rfl)
theorem dX3_joinRow_32 : decode cX3_joinRow 32 = .ok (.aload_n 0, 1) := dk_42 (dk_at dksX3_joinRow_1 8 rfl rfl)
theorem dX3_joinRow_33 : decode cX3_joinRow 33 = .ok (.getfield 22, 3) := dk_180 0 22 (dk_at dksX3_joinRow_1 9 rfl rfl)
theorem dX3_joinRow_36 : decode cX3_joinRow 36 = .ok (.invokevirtual 146, 3) := dk_182 0 146 (dk_at dksX3_joinRow_1 12 rfl rfl)
theorem dX3_joinRow_39 : decode cX3_joinRow 39 = .ok (.iconst 1, 1) := dk_4 (dk_at dksX3_joinRow_1 15 rfl rfl)
theorem dX3_joinRow_40 : decode cX3_joinRow 40 = .ok (.isub, 1) := dk_100 (dk_at dksX3_joinRow_1 16 rfl rfl)
theorem dX3_joinRow_41 : decode cX3_joinRow 41 = .ok (.ireturn, 1) := dk_172 (dk_at dksX3_joinRow_1 17 rfl rfl)
abbrev iX3_joinRow : xM := (yX3_joinRow, cX3_joinRow, 3, (some .int), [])
theorem mX3_joinRow : xOkM iX3_joinRow := ⟨by decide +kernel, by decide, q2800, q132⟩
abbrev cX3_setTarget : ByteArray := prog_5_method_23_code
def yX3_setTarget : MethodName := ⟨RX3, "setTarget", "(I)I"⟩
def dkwX3_setTarget_0 : List UInt8 := [27, 3, 16, 40, 184, 0, 150, 184, 1, 0, 42, 180, 0, 43, 61, 42, 27, 181, 0, 43, 28, 172]
abbrev dktX3_setTarget_0 : List UInt8 := dkwX3_setTarget_0 ++ []
theorem dksX3_setTarget_0 : cX3_setTarget.data.toList.drop 0 = dktX3_setTarget_0 := by decide +kernel
theorem dX3_setTarget_0 : decode cX3_setTarget 0 = .ok (.iload_n 1, 1) := dk_27 (dk_at dksX3_setTarget_0 0 rfl rfl)
theorem dX3_setTarget_1 : decode cX3_setTarget 1 = .ok (.iconst 0, 1) := dk_3 (dk_at dksX3_setTarget_0 1 rfl rfl)
theorem dX3_setTarget_2 : decode cX3_setTarget 2 = .ok (.bipush 40, 2) := dk_16 40 (dk_at dksX3_setTarget_0 2 rfl rfl)
theorem dX3_setTarget_4 : decode cX3_setTarget 4 = .ok (.invokestatic 150, 3) := dk_184 0 150 (dk_at dksX3_setTarget_0 4 rfl rfl)
theorem dX3_setTarget_7 : decode cX3_setTarget 7 = .ok (.invokestatic 256, 3) := dk_184 1 0 (dk_at dksX3_setTarget_0 7 rfl rfl)
theorem dX3_setTarget_10 : decode cX3_setTarget 10 = .ok (.aload_n 0, 1) := dk_42 (dk_at dksX3_setTarget_0 10 rfl rfl)
theorem dX3_setTarget_11 : decode cX3_setTarget 11 = .ok (.getfield 43, 3) := dk_180 0 43 (dk_at dksX3_setTarget_0 11 rfl rfl)
theorem dX3_setTarget_14 : decode cX3_setTarget 14 = .ok (.istore_n 2, 1) := dk_61 (dk_at dksX3_setTarget_0 14 rfl rfl)
theorem dX3_setTarget_15 : decode cX3_setTarget 15 = .ok (.aload_n 0, 1) := dk_42 (dk_at dksX3_setTarget_0 15 rfl rfl)
theorem dX3_setTarget_16 : decode cX3_setTarget 16 = .ok (.iload_n 1, 1) := dk_27 (dk_at dksX3_setTarget_0 16 rfl rfl)
theorem dX3_setTarget_17 : decode cX3_setTarget 17 = .ok (.putfield 43, 3) := dk_181 0 43 (dk_at dksX3_setTarget_0 17 rfl rfl)
theorem dX3_setTarget_20 : decode cX3_setTarget 20 = .ok (.iload_n 2, 1) := dk_28 (dk_at dksX3_setTarget_0 20 rfl rfl)
theorem dX3_setTarget_21 : decode cX3_setTarget 21 = .ok (.ireturn, 1) := dk_172 (dk_at dksX3_setTarget_0 21 rfl rfl)
abbrev iX3_setTarget : xM := (yX3_setTarget, cX3_setTarget, 3, (some .int), [])
theorem mX3_setTarget : xOkM iX3_setTarget := ⟨by decide +kernel, by decide, q2804, q132⟩
abbrev cX3_passHours : ByteArray := prog_5_method_24_code
def yX3_passHours : MethodName := ⟨RX3, "passHours", "(I)I"⟩
def dkwX3_passHours_2 : List UInt8 := [42, 180, 0, 39, 172]
abbrev dktX3_passHours_2 : List UInt8 := dkwX3_passHours_2 ++ []
def dkwX3_passHours_1 : List UInt8 := [167, 0, 4, 3, 184, 0, 172, 3, 61, 28, 27, 162, 0, 13, 42, 182, 1, 20, 132, 2, 1, 167, 255, 244]
abbrev dktX3_passHours_1 : List UInt8 := dkwX3_passHours_1 ++ dktX3_passHours_2
def dkwX3_passHours_0 : List UInt8 := [27, 4, 16, 48, 184, 0, 150, 184, 1, 0, 42, 180, 0, 58, 27, 96, 17, 39, 15, 163, 0, 7, 4]
abbrev dktX3_passHours_0 : List UInt8 := dkwX3_passHours_0 ++ dktX3_passHours_1
theorem dksX3_passHours_0 : cX3_passHours.data.toList.drop 0 = dktX3_passHours_0 := by decide +kernel
theorem dksX3_passHours_1 : cX3_passHours.data.toList.drop 23 = dktX3_passHours_1 := dk_seg dksX3_passHours_0 23 rfl rfl
theorem dksX3_passHours_2 : cX3_passHours.data.toList.drop 47 = dktX3_passHours_2 := dk_seg dksX3_passHours_1 24 rfl rfl
theorem dX3_passHours_0 : decode cX3_passHours 0 = .ok (.iload_n 1, 1) := dk_27 (dk_at dksX3_passHours_0 0 rfl rfl)
theorem dX3_passHours_1 : decode cX3_passHours 1 = .ok (.iconst 1, 1) := dk_4 (dk_at dksX3_passHours_0 1 rfl rfl)
theorem dX3_passHours_2 : decode cX3_passHours 2 = .ok (.bipush 48, 2) := dk_16 48 (dk_at dksX3_passHours_0 2 rfl rfl)
theorem dX3_passHours_4 : decode cX3_passHours 4 = .ok (.invokestatic 150, 3) := dk_184 0 150 (dk_at dksX3_passHours_0 4 rfl rfl)
theorem dX3_passHours_7 : decode cX3_passHours 7 = .ok (.invokestatic 256, 3) := dk_184 1 0 (dk_at dksX3_passHours_0 7 rfl rfl)
theorem dX3_passHours_10 : decode cX3_passHours 10 = .ok (.aload_n 0, 1) := dk_42 (dk_at dksX3_passHours_0 10 rfl rfl)
theorem dX3_passHours_11 : decode cX3_passHours 11 = .ok (.getfield 58, 3) := dk_180 0 58 (dk_at dksX3_passHours_0 11 rfl rfl)
theorem dX3_passHours_14 : decode cX3_passHours 14 = .ok (.iload_n 1, 1) := dk_27 (dk_at dksX3_passHours_0 14 rfl rfl)
theorem dX3_passHours_15 : decode cX3_passHours 15 = .ok (.iadd, 1) := dk_96 (dk_at dksX3_passHours_0 15 rfl rfl)
theorem dX3_passHours_16 : decode cX3_passHours 16 = .ok (.sipush 9999, 3) := dk_17 39 15 (dk_at dksX3_passHours_0 16 rfl rfl)
theorem dX3_passHours_19 : decode cX3_passHours 19 = .ok (.if_icmp .gt 7, 3) := dk_163 0 7 (dk_at dksX3_passHours_0 19 rfl rfl)
theorem dX3_passHours_22 : decode cX3_passHours 22 = .ok (.iconst 1, 1) := dk_4 (dk_at dksX3_passHours_0 22 rfl rfl)
theorem dX3_passHours_23 : decode cX3_passHours 23 = .ok (.goto 4, 3) := dk_167 0 4 (dk_at dksX3_passHours_1 0 rfl rfl)
theorem dX3_passHours_26 : decode cX3_passHours 26 = .ok (.iconst 0, 1) := dk_3 (dk_at dksX3_passHours_1 3 rfl rfl)
theorem dX3_passHours_27 : decode cX3_passHours 27 = .ok (.invokestatic 172, 3) := dk_184 0 172 (dk_at dksX3_passHours_1 4 rfl rfl)
theorem dX3_passHours_30 : decode cX3_passHours 30 = .ok (.iconst 0, 1) := dk_3 (dk_at dksX3_passHours_1 7 rfl rfl)
theorem dX3_passHours_31 : decode cX3_passHours 31 = .ok (.istore_n 2, 1) := dk_61 (dk_at dksX3_passHours_1 8 rfl rfl)
theorem dX3_passHours_32 : decode cX3_passHours 32 = .ok (.iload_n 2, 1) := dk_28 (dk_at dksX3_passHours_1 9 rfl rfl)
theorem dX3_passHours_33 : decode cX3_passHours 33 = .ok (.iload_n 1, 1) := dk_27 (dk_at dksX3_passHours_1 10 rfl rfl)
theorem dX3_passHours_34 : decode cX3_passHours 34 = .ok (.if_icmp .ge 13, 3) := dk_162 0 13 (dk_at dksX3_passHours_1 11 rfl rfl)
theorem dX3_passHours_37 : decode cX3_passHours 37 = .ok (.aload_n 0, 1) := dk_42 (dk_at dksX3_passHours_1 14 rfl rfl)
theorem dX3_passHours_38 : decode cX3_passHours 38 = .ok (.invokevirtual 276, 3) := dk_182 1 20 (dk_at dksX3_passHours_1 15 rfl rfl)
theorem dX3_passHours_41 : decode cX3_passHours 41 = .ok (.iinc 2 1, 3) := dk_132 2 1 (dk_at dksX3_passHours_1 18 rfl rfl)
theorem dX3_passHours_44 : decode cX3_passHours 44 = .ok (.goto (-12), 3) := dk_167 255 244 (dk_at dksX3_passHours_1 21 rfl rfl)
theorem dX3_passHours_47 : decode cX3_passHours 47 = .ok (.aload_n 0, 1) := dk_42 (dk_at dksX3_passHours_2 0 rfl rfl)
theorem dX3_passHours_48 : decode cX3_passHours 48 = .ok (.getfield 39, 3) := dk_180 0 39 (dk_at dksX3_passHours_2 1 rfl rfl)
theorem dX3_passHours_51 : decode cX3_passHours 51 = .ok (.ireturn, 1) := dk_172 (dk_at dksX3_passHours_2 4 rfl rfl)
abbrev iX3_passHours : xM := (yX3_passHours, cX3_passHours, 3, (some .int), [])
theorem mX3_passHours : xOkM iX3_passHours := ⟨by decide +kernel, by decide, q2808, q132⟩
abbrev cX3_passHour : ByteArray := prog_5_method_16_code
def yX3_passHour : MethodName := ⟨RX3, "passHour", "()V"⟩
def dkwX3_passHour_4 : List UInt8 := [180, 0, 246, 46, 104, 182, 0, 249, 25, 4, 182, 0, 253, 167, 255, 196, 177]
abbrev dktX3_passHour_4 : List UInt8 := dkwX3_passHour_4 ++ []
def dkwX3_passHour_3 : List UInt8 := [192, 0, 129, 58, 4, 25, 4, 27, 116, 42, 180, 0, 9, 45, 185, 0, 124, 1, 0, 192, 0, 127]
abbrev dktX3_passHour_3 : List UInt8 := dkwX3_passHour_3 ++ dktX3_passHour_4
def dkwX3_passHour_2 : List UInt8 := [185, 0, 89, 1, 0, 153, 0, 57, 44, 185, 0, 95, 1, 0, 192, 0, 122, 78, 45, 185, 0, 131, 1, 0]
abbrev dktX3_passHour_2 : List UInt8 := dkwX3_passHour_2 ++ dktX3_passHour_3
def dkwX3_passHour_1 : List UInt8 := [180, 0, 39, 27, 96, 181, 0, 39, 42, 180, 0, 28, 182, 0, 115, 185, 0, 119, 1, 0, 77, 44]
abbrev dktX3_passHour_1 : List UInt8 := dkwX3_passHour_1 ++ dktX3_passHour_2
def dkwX3_passHour_0 : List UInt8 := [42, 89, 180, 0, 58, 4, 96, 181, 0, 58, 42, 180, 0, 43, 42, 180, 0, 39, 184, 0, 240, 60, 42, 89]
abbrev dktX3_passHour_0 : List UInt8 := dkwX3_passHour_0 ++ dktX3_passHour_1
theorem dksX3_passHour_0 : cX3_passHour.data.toList.drop 0 = dktX3_passHour_0 := by decide +kernel
theorem dksX3_passHour_1 : cX3_passHour.data.toList.drop 24 = dktX3_passHour_1 := dk_seg dksX3_passHour_0 24 rfl rfl
theorem dksX3_passHour_2 : cX3_passHour.data.toList.drop 46 = dktX3_passHour_2 := dk_seg dksX3_passHour_1 22 rfl rfl
theorem dksX3_passHour_3 : cX3_passHour.data.toList.drop 70 = dktX3_passHour_3 := dk_seg dksX3_passHour_2 24 rfl rfl
theorem dksX3_passHour_4 : cX3_passHour.data.toList.drop 92 = dktX3_passHour_4 := dk_seg dksX3_passHour_3 22 rfl rfl
theorem dX3_passHour_0 : decode cX3_passHour 0 = .ok (.aload_n 0, 1) := dk_42 (dk_at dksX3_passHour_0 0 rfl rfl)
theorem dX3_passHour_1 : decode cX3_passHour 1 = .ok (.dup, 1) := dk_89 (dk_at dksX3_passHour_0 1 rfl rfl)
theorem dX3_passHour_2 : decode cX3_passHour 2 = .ok (.getfield 58, 3) := dk_180 0 58 (dk_at dksX3_passHour_0 2 rfl rfl)
theorem dX3_passHour_5 : decode cX3_passHour 5 = .ok (.iconst 1, 1) := dk_4 (dk_at dksX3_passHour_0 5 rfl rfl)
theorem dX3_passHour_6 : decode cX3_passHour 6 = .ok (.iadd, 1) := dk_96 (dk_at dksX3_passHour_0 6 rfl rfl)
theorem dX3_passHour_7 : decode cX3_passHour 7 = .ok (.putfield 58, 3) := dk_181 0 58 (dk_at dksX3_passHour_0 7 rfl rfl)
theorem dX3_passHour_10 : decode cX3_passHour 10 = .ok (.aload_n 0, 1) := dk_42 (dk_at dksX3_passHour_0 10 rfl rfl)
theorem dX3_passHour_11 : decode cX3_passHour 11 = .ok (.getfield 43, 3) := dk_180 0 43 (dk_at dksX3_passHour_0 11 rfl rfl)
theorem dX3_passHour_14 : decode cX3_passHour 14 = .ok (.aload_n 0, 1) := dk_42 (dk_at dksX3_passHour_0 14 rfl rfl)
theorem dX3_passHour_15 : decode cX3_passHour 15 = .ok (.getfield 39, 3) := dk_180 0 39 (dk_at dksX3_passHour_0 15 rfl rfl)
theorem dX3_passHour_18 : decode cX3_passHour 18 = .ok (.invokestatic 240, 3) := dk_184 0 240 (dk_at dksX3_passHour_0 18 rfl rfl)
theorem dX3_passHour_21 : decode cX3_passHour 21 = .ok (.istore_n 1, 1) := dk_60 (dk_at dksX3_passHour_0 21 rfl rfl)
theorem dX3_passHour_22 : decode cX3_passHour 22 = .ok (.aload_n 0, 1) := dk_42 (dk_at dksX3_passHour_0 22 rfl rfl)
theorem dX3_passHour_23 : decode cX3_passHour 23 = .ok (.dup, 1) := dk_89 (dk_at dksX3_passHour_0 23 rfl rfl)
theorem dX3_passHour_24 : decode cX3_passHour 24 = .ok (.getfield 39, 3) := dk_180 0 39 (dk_at dksX3_passHour_1 0 rfl rfl)
theorem dX3_passHour_27 : decode cX3_passHour 27 = .ok (.iload_n 1, 1) := dk_27 (dk_at dksX3_passHour_1 3 rfl rfl)
theorem dX3_passHour_28 : decode cX3_passHour 28 = .ok (.iadd, 1) := dk_96 (dk_at dksX3_passHour_1 4 rfl rfl)
theorem dX3_passHour_29 : decode cX3_passHour 29 = .ok (.putfield 39, 3) := dk_181 0 39 (dk_at dksX3_passHour_1 5 rfl rfl)
theorem dX3_passHour_32 : decode cX3_passHour 32 = .ok (.aload_n 0, 1) := dk_42 (dk_at dksX3_passHour_1 8 rfl rfl)
theorem dX3_passHour_33 : decode cX3_passHour 33 = .ok (.getfield 28, 3) := dk_180 0 28 (dk_at dksX3_passHour_1 9 rfl rfl)
theorem dX3_passHour_36 : decode cX3_passHour 36 = .ok (.invokevirtual 115, 3) := dk_182 0 115 (dk_at dksX3_passHour_1 12 rfl rfl)
theorem dX3_passHour_39 : decode cX3_passHour 39 = .ok (.invokeinterface 119 1, 5) := by decide +kernel
theorem dX3_passHour_44 : decode cX3_passHour 44 = .ok (.astore_n 2, 1) := dk_77 (dk_at dksX3_passHour_1 20 rfl rfl)
theorem dX3_passHour_45 : decode cX3_passHour 45 = .ok (.aload_n 2, 1) := dk_44 (dk_at dksX3_passHour_1 21 rfl rfl)
theorem dX3_passHour_46 : decode cX3_passHour 46 = .ok (.invokeinterface 89 1, 5) := by decide +kernel
theorem dX3_passHour_51 : decode cX3_passHour 51 = .ok (.ifCond .eq 57, 3) := dk_153 0 57 (dk_at dksX3_passHour_2 5 rfl rfl)
theorem dX3_passHour_54 : decode cX3_passHour 54 = .ok (.aload_n 2, 1) := dk_44 (dk_at dksX3_passHour_2 8 rfl rfl)
theorem dX3_passHour_55 : decode cX3_passHour 55 = .ok (.invokeinterface 95 1, 5) := by decide +kernel
theorem dX3_passHour_60 : decode cX3_passHour 60 = .ok (.checkcast 122, 3) := dk_192 0 122 (dk_at dksX3_passHour_2 14 rfl rfl)
theorem dX3_passHour_63 : decode cX3_passHour 63 = .ok (.astore_n 3, 1) := dk_78 (dk_at dksX3_passHour_2 17 rfl rfl)
theorem dX3_passHour_64 : decode cX3_passHour 64 = .ok (.aload_n 3, 1) := dk_45 (dk_at dksX3_passHour_2 18 rfl rfl)
theorem dX3_passHour_65 : decode cX3_passHour 65 = .ok (.invokeinterface 131 1, 5) := by decide +kernel
theorem dX3_passHour_70 : decode cX3_passHour 70 = .ok (.checkcast 129, 3) := dk_192 0 129 (dk_at dksX3_passHour_3 0 rfl rfl)
theorem dX3_passHour_73 : decode cX3_passHour 73 = .ok (.astore 4, 2) := dk_58 4 (dk_at dksX3_passHour_3 3 rfl rfl)
theorem dX3_passHour_75 : decode cX3_passHour 75 = .ok (.aload 4, 2) := dk_25 4 (dk_at dksX3_passHour_3 5 rfl rfl)
theorem dX3_passHour_77 : decode cX3_passHour 77 = .ok (.iload_n 1, 1) := dk_27 (dk_at dksX3_passHour_3 7 rfl rfl)
theorem dX3_passHour_78 : decode cX3_passHour 78 = .ok (.ineg, 1) := dk_116 (dk_at dksX3_passHour_3 8 rfl rfl)
theorem dX3_passHour_79 : decode cX3_passHour 79 = .ok (.aload_n 0, 1) := dk_42 (dk_at dksX3_passHour_3 9 rfl rfl)
theorem dX3_passHour_80 : decode cX3_passHour 80 = .ok (.getfield 9, 3) := dk_180 0 9 (dk_at dksX3_passHour_3 10 rfl rfl)
theorem dX3_passHour_83 : decode cX3_passHour 83 = .ok (.aload_n 3, 1) := dk_45 (dk_at dksX3_passHour_3 13 rfl rfl)
theorem dX3_passHour_84 : decode cX3_passHour 84 = .ok (.invokeinterface 124 1, 5) := by decide +kernel
theorem dX3_passHour_89 : decode cX3_passHour 89 = .ok (.checkcast 127, 3) := dk_192 0 127 (dk_at dksX3_passHour_3 19 rfl rfl)
theorem dX3_passHour_92 : decode cX3_passHour 92 = .ok (.getfield 246, 3) := dk_180 0 246 (dk_at dksX3_passHour_4 0 rfl rfl)
theorem dX3_passHour_95 : decode cX3_passHour 95 = .ok (.iaload, 1) := dk_46 (dk_at dksX3_passHour_4 3 rfl rfl)
theorem dX3_passHour_96 : decode cX3_passHour 96 = .ok (.imul, 1) := dk_104 (dk_at dksX3_passHour_4 4 rfl rfl)
theorem dX3_passHour_97 : decode cX3_passHour 97 = .ok (.invokevirtual 249, 3) := dk_182 0 249 (dk_at dksX3_passHour_4 5 rfl rfl)
theorem dX3_passHour_100 : decode cX3_passHour 100 = .ok (.aload 4, 2) := dk_25 4 (dk_at dksX3_passHour_4 8 rfl rfl)
theorem dX3_passHour_102 : decode cX3_passHour 102 = .ok (.invokevirtual 253, 3) := dk_182 0 253 (dk_at dksX3_passHour_4 10 rfl rfl)
theorem dX3_passHour_105 : decode cX3_passHour 105 = .ok (.goto (-60), 3) := dk_167 255 196 (dk_at dksX3_passHour_4 13 rfl rfl)
theorem dX3_passHour_108 : decode cX3_passHour 108 = .ok (.return_, 1) := dk_177 (dk_at dksX3_passHour_4 16 rfl rfl)
abbrev iX3_passHour : xM := (yX3_passHour, cX3_passHour, 5, none, [])
theorem mX3_passHour : xOkM iX3_passHour := ⟨by decide +kernel, by decide, q2812, q132⟩
abbrev cX3_forgivenAt : ByteArray := prog_5_method_15_code
def yX3_forgivenAt : MethodName := ⟨RX3, "forgivenAt", "(I)LFiddleRow$StringKey;"⟩
def dkwX3_forgivenAt_2 : List UInt8 := [1, 176]
abbrev dktX3_forgivenAt_2 : List UInt8 := dkwX3_forgivenAt_2 ++ []
def dkwX3_forgivenAt_1 : List UInt8 := [185, 0, 95, 1, 0, 192, 0, 127, 58, 4, 28, 27, 160, 0, 6, 25, 4, 176, 132, 2, 1, 167, 255, 225]
abbrev dktX3_forgivenAt_1 : List UInt8 := dkwX3_forgivenAt_1 ++ dktX3_forgivenAt_2
def dkwX3_forgivenAt_0 : List UInt8 := [3, 61, 42, 180, 0, 35, 182, 0, 141, 78, 45, 185, 0, 89, 1, 0, 153, 0, 28, 45]
abbrev dktX3_forgivenAt_0 : List UInt8 := dkwX3_forgivenAt_0 ++ dktX3_forgivenAt_1
theorem dksX3_forgivenAt_0 : cX3_forgivenAt.data.toList.drop 0 = dktX3_forgivenAt_0 := by decide +kernel
theorem dksX3_forgivenAt_1 : cX3_forgivenAt.data.toList.drop 20 = dktX3_forgivenAt_1 := dk_seg dksX3_forgivenAt_0 20 rfl rfl
theorem dksX3_forgivenAt_2 : cX3_forgivenAt.data.toList.drop 44 = dktX3_forgivenAt_2 := dk_seg dksX3_forgivenAt_1 24 rfl rfl
theorem dX3_forgivenAt_0 : decode cX3_forgivenAt 0 = .ok (.iconst 0, 1) := dk_3 (dk_at dksX3_forgivenAt_0 0 rfl rfl)
theorem dX3_forgivenAt_1 : decode cX3_forgivenAt 1 = .ok (.istore_n 2, 1) := dk_61 (dk_at dksX3_forgivenAt_0 1 rfl rfl)
theorem dX3_forgivenAt_2 : decode cX3_forgivenAt 2 = .ok (.aload_n 0, 1) := dk_42 (dk_at dksX3_forgivenAt_0 2 rfl rfl)
theorem dX3_forgivenAt_3 : decode cX3_forgivenAt 3 = .ok (.getfield 35, 3) := dk_180 0 35 (dk_at dksX3_forgivenAt_0 3 rfl rfl)
theorem dX3_forgivenAt_6 : decode cX3_forgivenAt 6 = .ok (.invokevirtual 141, 3) := dk_182 0 141 (dk_at dksX3_forgivenAt_0 6 rfl rfl)
theorem dX3_forgivenAt_9 : decode cX3_forgivenAt 9 = .ok (.astore_n 3, 1) := dk_78 (dk_at dksX3_forgivenAt_0 9 rfl rfl)
theorem dX3_forgivenAt_10 : decode cX3_forgivenAt 10 = .ok (.aload_n 3, 1) := dk_45 (dk_at dksX3_forgivenAt_0 10 rfl rfl)
theorem dX3_forgivenAt_11 : decode cX3_forgivenAt 11 = .ok (.invokeinterface 89 1, 5) := by decide +kernel
theorem dX3_forgivenAt_16 : decode cX3_forgivenAt 16 = .ok (.ifCond .eq 28, 3) := dk_153 0 28 (dk_at dksX3_forgivenAt_0 16 rfl rfl)
theorem dX3_forgivenAt_19 : decode cX3_forgivenAt 19 = .ok (.aload_n 3, 1) := dk_45 (dk_at dksX3_forgivenAt_0 19 rfl rfl)
theorem dX3_forgivenAt_20 : decode cX3_forgivenAt 20 = .ok (.invokeinterface 95 1, 5) := by decide +kernel
theorem dX3_forgivenAt_25 : decode cX3_forgivenAt 25 = .ok (.checkcast 127, 3) := dk_192 0 127 (dk_at dksX3_forgivenAt_1 5 rfl rfl)
theorem dX3_forgivenAt_28 : decode cX3_forgivenAt 28 = .ok (.astore 4, 2) := dk_58 4 (dk_at dksX3_forgivenAt_1 8 rfl rfl)
theorem dX3_forgivenAt_30 : decode cX3_forgivenAt 30 = .ok (.iload_n 2, 1) := dk_28 (dk_at dksX3_forgivenAt_1 10 rfl rfl)
theorem dX3_forgivenAt_31 : decode cX3_forgivenAt 31 = .ok (.iload_n 1, 1) := dk_27 (dk_at dksX3_forgivenAt_1 11 rfl rfl)
theorem dX3_forgivenAt_32 : decode cX3_forgivenAt 32 = .ok (.if_icmp .ne 6, 3) := dk_160 0 6 (dk_at dksX3_forgivenAt_1 12 rfl rfl)
theorem dX3_forgivenAt_35 : decode cX3_forgivenAt 35 = .ok (.aload 4, 2) := dk_25 4 (dk_at dksX3_forgivenAt_1 15 rfl rfl)
theorem dX3_forgivenAt_37 : decode cX3_forgivenAt 37 = .ok (.areturn, 1) := dk_176 (dk_at dksX3_forgivenAt_1 17 rfl rfl)
theorem dX3_forgivenAt_38 : decode cX3_forgivenAt 38 = .ok (.iinc 2 1, 3) := dk_132 2 1 (dk_at dksX3_forgivenAt_1 18 rfl rfl)
theorem dX3_forgivenAt_41 : decode cX3_forgivenAt 41 = .ok (.goto (-31), 3) := dk_167 255 225 (dk_at dksX3_forgivenAt_1 21 rfl rfl)
theorem dX3_forgivenAt_44 : decode cX3_forgivenAt 44 = .ok (.aconst_null, 1) := dk_1 (dk_at dksX3_forgivenAt_2 0 rfl rfl)
theorem dX3_forgivenAt_45 : decode cX3_forgivenAt 45 = .ok (.areturn, 1) := dk_176 (dk_at dksX3_forgivenAt_2 1 rfl rfl)
abbrev iX3_forgivenAt : xM := (yX3_forgivenAt, cX3_forgivenAt, 5, (some (.object "FiddleRow$StringKey")), [])
theorem mX3_forgivenAt : xOkM iX3_forgivenAt := ⟨by decide +kernel, by decide, q3086, q132⟩
abbrev cX3_pegWithString : ByteArray := prog_5_method_6_code
def yX3_pegWithString : MethodName := ⟨RX3, "pegWithString", "(II)LFiddleRow$Peg;"⟩
def dkwX3_pegWithString_0 : List UInt8 := [42, 27, 28, 182, 0, 164, 78, 45, 180, 0, 168, 154, 0, 7, 4, 167, 0, 4, 3, 184, 0, 172, 45, 176]
abbrev dktX3_pegWithString_0 : List UInt8 := dkwX3_pegWithString_0 ++ []
theorem dksX3_pegWithString_0 : cX3_pegWithString.data.toList.drop 0 = dktX3_pegWithString_0 := by decide +kernel
theorem dX3_pegWithString_0 : decode cX3_pegWithString 0 = .ok (.aload_n 0, 1) := dk_42 (dk_at dksX3_pegWithString_0 0 rfl rfl)
theorem dX3_pegWithString_1 : decode cX3_pegWithString 1 = .ok (.iload_n 1, 1) := dk_27 (dk_at dksX3_pegWithString_0 1 rfl rfl)
theorem dX3_pegWithString_2 : decode cX3_pegWithString 2 = .ok (.iload_n 2, 1) := dk_28 (dk_at dksX3_pegWithString_0 2 rfl rfl)
theorem dX3_pegWithString_3 : decode cX3_pegWithString 3 = .ok (.invokevirtual 164, 3) := dk_182 0 164 (dk_at dksX3_pegWithString_0 3 rfl rfl)
theorem dX3_pegWithString_6 : decode cX3_pegWithString 6 = .ok (.astore_n 3, 1) := dk_78 (dk_at dksX3_pegWithString_0 6 rfl rfl)
theorem dX3_pegWithString_7 : decode cX3_pegWithString 7 = .ok (.aload_n 3, 1) := dk_45 (dk_at dksX3_pegWithString_0 7 rfl rfl)
theorem dX3_pegWithString_8 : decode cX3_pegWithString 8 = .ok (.getfield 168, 3) := dk_180 0 168 (dk_at dksX3_pegWithString_0 8 rfl rfl)
theorem dX3_pegWithString_11 : decode cX3_pegWithString 11 = .ok (.ifCond .ne 7, 3) := dk_154 0 7 (dk_at dksX3_pegWithString_0 11 rfl rfl)
theorem dX3_pegWithString_14 : decode cX3_pegWithString 14 = .ok (.iconst 1, 1) := dk_4 (dk_at dksX3_pegWithString_0 14 rfl rfl)
theorem dX3_pegWithString_15 : decode cX3_pegWithString 15 = .ok (.goto 4, 3) := dk_167 0 4 (dk_at dksX3_pegWithString_0 15 rfl rfl)
theorem dX3_pegWithString_18 : decode cX3_pegWithString 18 = .ok (.iconst 0, 1) := dk_3 (dk_at dksX3_pegWithString_0 18 rfl rfl)
theorem dX3_pegWithString_19 : decode cX3_pegWithString 19 = .ok (.invokestatic 172, 3) := dk_184 0 172 (dk_at dksX3_pegWithString_0 19 rfl rfl)
theorem dX3_pegWithString_22 : decode cX3_pegWithString 22 = .ok (.aload_n 3, 1) := dk_45 (dk_at dksX3_pegWithString_0 22 rfl rfl)
theorem dX3_pegWithString_23 : decode cX3_pegWithString 23 = .ok (.areturn, 1) := dk_176 (dk_at dksX3_pegWithString_0 23 rfl rfl)
abbrev iX3_pegWithString : xM := (yX3_pegWithString, cX3_pegWithString, 4, (some (.object "FiddleRow$Peg")), [])
theorem mX3_pegWithString : xOkM iX3_pegWithString := ⟨by decide +kernel, by decide, q3282, q132⟩
abbrev cX2_init : ByteArray := prog_6_method_1_code
def yX2_init : MethodName := ⟨RX2, "<init>", "(LFiddleRow$Copyable;)V"⟩
def dkwX2_init_1 : List UInt8 := [181, 0, 21, 42, 43, 182, 0, 25, 177]
abbrev dktX2_init_1 : List UInt8 := dkwX2_init_1 ++ []
def dkwX2_init_0 : List UInt8 := [42, 183, 0, 3, 42, 187, 0, 9, 89, 183, 0, 11, 181, 0, 12, 42, 187, 0, 18, 89, 183, 0, 20]
abbrev dktX2_init_0 : List UInt8 := dkwX2_init_0 ++ dktX2_init_1
theorem dksX2_init_0 : cX2_init.data.toList.drop 0 = dktX2_init_0 := by decide +kernel
theorem dksX2_init_1 : cX2_init.data.toList.drop 23 = dktX2_init_1 := dk_seg dksX2_init_0 23 rfl rfl
theorem dX2_init_0 : decode cX2_init 0 = .ok (.aload_n 0, 1) := dk_42 (dk_at dksX2_init_0 0 rfl rfl)
theorem dX2_init_1 : decode cX2_init 1 = .ok (.invokespecial 3, 3) := dk_183 0 3 (dk_at dksX2_init_0 1 rfl rfl)
theorem dX2_init_4 : decode cX2_init 4 = .ok (.aload_n 0, 1) := dk_42 (dk_at dksX2_init_0 4 rfl rfl)
theorem dX2_init_5 : decode cX2_init 5 = .ok (.new 9, 3) := dk_187 0 9 (dk_at dksX2_init_0 5 rfl rfl)
theorem dX2_init_8 : decode cX2_init 8 = .ok (.dup, 1) := dk_89 (dk_at dksX2_init_0 8 rfl rfl)
theorem dX2_init_9 : decode cX2_init 9 = .ok (.invokespecial 11, 3) := dk_183 0 11 (dk_at dksX2_init_0 9 rfl rfl)
theorem dX2_init_12 : decode cX2_init 12 = .ok (.putfield 12, 3) := dk_181 0 12 (dk_at dksX2_init_0 12 rfl rfl)
theorem dX2_init_15 : decode cX2_init 15 = .ok (.aload_n 0, 1) := dk_42 (dk_at dksX2_init_0 15 rfl rfl)
theorem dX2_init_16 : decode cX2_init 16 = .ok (.new 18, 3) := dk_187 0 18 (dk_at dksX2_init_0 16 rfl rfl)
theorem dX2_init_19 : decode cX2_init 19 = .ok (.dup, 1) := dk_89 (dk_at dksX2_init_0 19 rfl rfl)
theorem dX2_init_20 : decode cX2_init 20 = .ok (.invokespecial 20, 3) := dk_183 0 20 (dk_at dksX2_init_0 20 rfl rfl)
theorem dX2_init_23 : decode cX2_init 23 = .ok (.putfield 21, 3) := dk_181 0 21 (dk_at dksX2_init_1 0 rfl rfl)
theorem dX2_init_26 : decode cX2_init 26 = .ok (.aload_n 0, 1) := dk_42 (dk_at dksX2_init_1 3 rfl rfl)
theorem dX2_init_27 : decode cX2_init 27 = .ok (.aload_n 1, 1) := dk_43 (dk_at dksX2_init_1 4 rfl rfl)
theorem dX2_init_28 : decode cX2_init 28 = .ok (.invokevirtual 25, 3) := dk_182 0 25 (dk_at dksX2_init_1 5 rfl rfl)
theorem dX2_init_31 : decode cX2_init 31 = .ok (.return_, 1) := dk_177 (dk_at dksX2_init_1 8 rfl rfl)
abbrev iX2_init : xM := (yX2_init, cX2_init, 2, none, [])
theorem mX2_init : xOkM iX2_init := ⟨by decide +kernel, by decide, q1924, q131⟩
abbrev cX2_begin : ByteArray := prog_6_method_2_code
def yX2_begin : MethodName := ⟨RX2, "begin", "(LFiddleRow$Copyable;)V"⟩
def dkwX2_begin_1 : List UInt8 := [162, 0, 18, 42, 180, 0, 21, 1, 182, 0, 37, 87, 132, 2, 1, 167, 255, 239, 177]
abbrev dktX2_begin_1 : List UInt8 := dkwX2_begin_1 ++ []
def dkwX2_begin_0 : List UInt8 := [42, 43, 181, 0, 29, 42, 180, 0, 12, 182, 0, 33, 42, 180, 0, 21, 182, 0, 36, 3, 61, 28, 5]
abbrev dktX2_begin_0 : List UInt8 := dkwX2_begin_0 ++ dktX2_begin_1
theorem dksX2_begin_0 : cX2_begin.data.toList.drop 0 = dktX2_begin_0 := by decide +kernel
theorem dksX2_begin_1 : cX2_begin.data.toList.drop 23 = dktX2_begin_1 := dk_seg dksX2_begin_0 23 rfl rfl
theorem dX2_begin_0 : decode cX2_begin 0 = .ok (.aload_n 0, 1) := dk_42 (dk_at dksX2_begin_0 0 rfl rfl)
theorem dX2_begin_1 : decode cX2_begin 1 = .ok (.aload_n 1, 1) := dk_43 (dk_at dksX2_begin_0 1 rfl rfl)
theorem dX2_begin_2 : decode cX2_begin 2 = .ok (.putfield 29, 3) := dk_181 0 29 (dk_at dksX2_begin_0 2 rfl rfl)
theorem dX2_begin_5 : decode cX2_begin 5 = .ok (.aload_n 0, 1) := dk_42 (dk_at dksX2_begin_0 5 rfl rfl)
theorem dX2_begin_6 : decode cX2_begin 6 = .ok (.getfield 12, 3) := dk_180 0 12 (dk_at dksX2_begin_0 6 rfl rfl)
theorem dX2_begin_9 : decode cX2_begin 9 = .ok (.invokevirtual 33, 3) := dk_182 0 33 (dk_at dksX2_begin_0 9 rfl rfl)
theorem dX2_begin_12 : decode cX2_begin 12 = .ok (.aload_n 0, 1) := dk_42 (dk_at dksX2_begin_0 12 rfl rfl)
theorem dX2_begin_13 : decode cX2_begin 13 = .ok (.getfield 21, 3) := dk_180 0 21 (dk_at dksX2_begin_0 13 rfl rfl)
theorem dX2_begin_16 : decode cX2_begin 16 = .ok (.invokevirtual 36, 3) := dk_182 0 36 (dk_at dksX2_begin_0 16 rfl rfl)
theorem dX2_begin_19 : decode cX2_begin 19 = .ok (.iconst 0, 1) := dk_3 (dk_at dksX2_begin_0 19 rfl rfl)
theorem dX2_begin_20 : decode cX2_begin 20 = .ok (.istore_n 2, 1) := dk_61 (dk_at dksX2_begin_0 20 rfl rfl)
theorem dX2_begin_21 : decode cX2_begin 21 = .ok (.iload_n 2, 1) := dk_28 (dk_at dksX2_begin_0 21 rfl rfl)
theorem dX2_begin_22 : decode cX2_begin 22 = .ok (.iconst 2, 1) := dk_5 (dk_at dksX2_begin_0 22 rfl rfl)
theorem dX2_begin_23 : decode cX2_begin 23 = .ok (.if_icmp .ge 18, 3) := dk_162 0 18 (dk_at dksX2_begin_1 0 rfl rfl)
theorem dX2_begin_26 : decode cX2_begin 26 = .ok (.aload_n 0, 1) := dk_42 (dk_at dksX2_begin_1 3 rfl rfl)
theorem dX2_begin_27 : decode cX2_begin 27 = .ok (.getfield 21, 3) := dk_180 0 21 (dk_at dksX2_begin_1 4 rfl rfl)
theorem dX2_begin_30 : decode cX2_begin 30 = .ok (.aconst_null, 1) := dk_1 (dk_at dksX2_begin_1 7 rfl rfl)
theorem dX2_begin_31 : decode cX2_begin 31 = .ok (.invokevirtual 37, 3) := dk_182 0 37 (dk_at dksX2_begin_1 8 rfl rfl)
theorem dX2_begin_34 : decode cX2_begin 34 = .ok (.pop, 1) := dk_87 (dk_at dksX2_begin_1 11 rfl rfl)
theorem dX2_begin_35 : decode cX2_begin 35 = .ok (.iinc 2 1, 3) := dk_132 2 1 (dk_at dksX2_begin_1 12 rfl rfl)
theorem dX2_begin_38 : decode cX2_begin 38 = .ok (.goto (-17), 3) := dk_167 255 239 (dk_at dksX2_begin_1 15 rfl rfl)
theorem dX2_begin_41 : decode cX2_begin 41 = .ok (.return_, 1) := dk_177 (dk_at dksX2_begin_1 18 rfl rfl)
abbrev iX2_begin : xM := (yX2_begin, cX2_begin, 3, none, [])
theorem mX2_begin : xOkM iX2_begin := ⟨by decide +kernel, by decide, q1950, q131⟩
abbrev cX2_keep : ByteArray := prog_6_method_3_code
def yX2_keep : MethodName := ⟨RX2, "keep", "(LFiddleRow$Copyable;)V"⟩
def dkwX2_keep_1 : List UInt8 := [180, 0, 12, 42, 180, 0, 29, 182, 0, 51, 42, 43, 181, 0, 29, 177]
abbrev dktX2_keep_1 : List UInt8 := dkwX2_keep_1 ++ []
def dkwX2_keep_0 : List UInt8 := [42, 180, 0, 12, 182, 0, 41, 16, 8, 160, 0, 14, 42, 180, 0, 12, 182, 0, 45, 192, 0, 49, 77, 42]
abbrev dktX2_keep_0 : List UInt8 := dkwX2_keep_0 ++ dktX2_keep_1
theorem dksX2_keep_0 : cX2_keep.data.toList.drop 0 = dktX2_keep_0 := by decide +kernel
theorem dksX2_keep_1 : cX2_keep.data.toList.drop 24 = dktX2_keep_1 := dk_seg dksX2_keep_0 24 rfl rfl
theorem dX2_keep_0 : decode cX2_keep 0 = .ok (.aload_n 0, 1) := dk_42 (dk_at dksX2_keep_0 0 rfl rfl)
theorem dX2_keep_1 : decode cX2_keep 1 = .ok (.getfield 12, 3) := dk_180 0 12 (dk_at dksX2_keep_0 1 rfl rfl)
theorem dX2_keep_4 : decode cX2_keep 4 = .ok (.invokevirtual 41, 3) := dk_182 0 41 (dk_at dksX2_keep_0 4 rfl rfl)
theorem dX2_keep_7 : decode cX2_keep 7 = .ok (.bipush 8, 2) := dk_16 8 (dk_at dksX2_keep_0 7 rfl rfl)
theorem dX2_keep_9 : decode cX2_keep 9 = .ok (.if_icmp .ne 14, 3) := dk_160 0 14 (dk_at dksX2_keep_0 9 rfl rfl)
theorem dX2_keep_12 : decode cX2_keep 12 = .ok (.aload_n 0, 1) := dk_42 (dk_at dksX2_keep_0 12 rfl rfl)
theorem dX2_keep_13 : decode cX2_keep 13 = .ok (.getfield 12, 3) := dk_180 0 12 (dk_at dksX2_keep_0 13 rfl rfl)
theorem dX2_keep_16 : decode cX2_keep 16 = .ok (.invokevirtual 45, 3) := dk_182 0 45 (dk_at dksX2_keep_0 16 rfl rfl)
theorem dX2_keep_19 : decode cX2_keep 19 = .ok (.checkcast 49, 3) := dk_192 0 49 (dk_at dksX2_keep_0 19 rfl rfl)
theorem dX2_keep_22 : decode cX2_keep 22 = .ok (.astore_n 2, 1) := dk_77 (dk_at dksX2_keep_0 22 rfl rfl)
theorem dX2_keep_23 : decode cX2_keep 23 = .ok (.aload_n 0, 1) := dk_42 (dk_at dksX2_keep_0 23 rfl rfl)
theorem dX2_keep_24 : decode cX2_keep 24 = .ok (.getfield 12, 3) := dk_180 0 12 (dk_at dksX2_keep_1 0 rfl rfl)
theorem dX2_keep_27 : decode cX2_keep 27 = .ok (.aload_n 0, 1) := dk_42 (dk_at dksX2_keep_1 3 rfl rfl)
theorem dX2_keep_28 : decode cX2_keep 28 = .ok (.getfield 29, 3) := dk_180 0 29 (dk_at dksX2_keep_1 4 rfl rfl)
theorem dX2_keep_31 : decode cX2_keep 31 = .ok (.invokevirtual 51, 3) := dk_182 0 51 (dk_at dksX2_keep_1 7 rfl rfl)
theorem dX2_keep_34 : decode cX2_keep 34 = .ok (.aload_n 0, 1) := dk_42 (dk_at dksX2_keep_1 10 rfl rfl)
theorem dX2_keep_35 : decode cX2_keep 35 = .ok (.aload_n 1, 1) := dk_43 (dk_at dksX2_keep_1 11 rfl rfl)
theorem dX2_keep_36 : decode cX2_keep 36 = .ok (.putfield 29, 3) := dk_181 0 29 (dk_at dksX2_keep_1 12 rfl rfl)
theorem dX2_keep_39 : decode cX2_keep 39 = .ok (.return_, 1) := dk_177 (dk_at dksX2_keep_1 15 rfl rfl)
abbrev iX2_keep : xM := (yX2_keep, cX2_keep, 3, none, [])
theorem mX2_keep : xOkM iX2_keep := ⟨by decide +kernel, by decide, q2826, q131⟩
abbrev cX2_undo : ByteArray := prog_6_method_4_code
def yX2_undo : MethodName := ⟨RX2, "undo", "()I"⟩
def dkwX2_undo_1 : List UInt8 := [182, 0, 63, 192, 0, 49, 181, 0, 29, 42, 180, 0, 12, 182, 0, 41, 172]
abbrev dktX2_undo_1 : List UInt8 := dkwX2_undo_1 ++ []
def dkwX2_undo_0 : List UInt8 := [42, 180, 0, 12, 182, 0, 55, 154, 0, 7, 4, 167, 0, 4, 3, 184, 0, 59, 42, 42, 180, 0, 12]
abbrev dktX2_undo_0 : List UInt8 := dkwX2_undo_0 ++ dktX2_undo_1
theorem dksX2_undo_0 : cX2_undo.data.toList.drop 0 = dktX2_undo_0 := by decide +kernel
theorem dksX2_undo_1 : cX2_undo.data.toList.drop 23 = dktX2_undo_1 := dk_seg dksX2_undo_0 23 rfl rfl
theorem dX2_undo_0 : decode cX2_undo 0 = .ok (.aload_n 0, 1) := dk_42 (dk_at dksX2_undo_0 0 rfl rfl)
theorem dX2_undo_1 : decode cX2_undo 1 = .ok (.getfield 12, 3) := dk_180 0 12 (dk_at dksX2_undo_0 1 rfl rfl)
theorem dX2_undo_4 : decode cX2_undo 4 = .ok (.invokevirtual 55, 3) := dk_182 0 55 (dk_at dksX2_undo_0 4 rfl rfl)
theorem dX2_undo_7 : decode cX2_undo 7 = .ok (.ifCond .ne 7, 3) := dk_154 0 7 (dk_at dksX2_undo_0 7 rfl rfl)
theorem dX2_undo_10 : decode cX2_undo 10 = .ok (.iconst 1, 1) := dk_4 (dk_at dksX2_undo_0 10 rfl rfl)
theorem dX2_undo_11 : decode cX2_undo 11 = .ok (.goto 4, 3) := dk_167 0 4 (dk_at dksX2_undo_0 11 rfl rfl)
theorem dX2_undo_14 : decode cX2_undo 14 = .ok (.iconst 0, 1) := dk_3 (dk_at dksX2_undo_0 14 rfl rfl)
theorem dX2_undo_15 : decode cX2_undo 15 = .ok (.invokestatic 59, 3) := dk_184 0 59 (dk_at dksX2_undo_0 15 rfl rfl)
theorem dX2_undo_18 : decode cX2_undo 18 = .ok (.aload_n 0, 1) := dk_42 (dk_at dksX2_undo_0 18 rfl rfl)
theorem dX2_undo_19 : decode cX2_undo 19 = .ok (.aload_n 0, 1) := dk_42 (dk_at dksX2_undo_0 19 rfl rfl)
theorem dX2_undo_20 : decode cX2_undo 20 = .ok (.getfield 12, 3) := dk_180 0 12 (dk_at dksX2_undo_0 20 rfl rfl)
theorem dX2_undo_23 : decode cX2_undo 23 = .ok (.invokevirtual 63, 3) := dk_182 0 63 (dk_at dksX2_undo_1 0 rfl rfl)
theorem dX2_undo_26 : decode cX2_undo 26 = .ok (.checkcast 49, 3) := dk_192 0 49 (dk_at dksX2_undo_1 3 rfl rfl)
theorem dX2_undo_29 : decode cX2_undo 29 = .ok (.putfield 29, 3) := dk_181 0 29 (dk_at dksX2_undo_1 6 rfl rfl)
theorem dX2_undo_32 : decode cX2_undo 32 = .ok (.aload_n 0, 1) := dk_42 (dk_at dksX2_undo_1 9 rfl rfl)
theorem dX2_undo_33 : decode cX2_undo 33 = .ok (.getfield 12, 3) := dk_180 0 12 (dk_at dksX2_undo_1 10 rfl rfl)
theorem dX2_undo_36 : decode cX2_undo 36 = .ok (.invokevirtual 41, 3) := dk_182 0 41 (dk_at dksX2_undo_1 13 rfl rfl)
theorem dX2_undo_39 : decode cX2_undo 39 = .ok (.ireturn, 1) := dk_172 (dk_at dksX2_undo_1 16 rfl rfl)
abbrev iX2_undo : xM := (yX2_undo, cX2_undo, 1, (some .int), [])
theorem mX2_undo : xOkM iX2_undo := ⟨by decide +kernel, by decide, q3462, q131⟩
abbrev cX2_save : ByteArray := prog_6_method_5_code
def yX2_save : MethodName := ⟨RX2, "save", "(I)V"⟩
def dkwX2_save_1 : List UInt8 := [77, 177]
abbrev dktX2_save_1 : List UInt8 := dkwX2_save_1 ++ []
def dkwX2_save_0 : List UInt8 := [27, 3, 4, 184, 0, 66, 184, 0, 70, 42, 180, 0, 21, 27, 42, 180, 0, 29, 182, 0, 73, 192, 0, 49]
abbrev dktX2_save_0 : List UInt8 := dkwX2_save_0 ++ dktX2_save_1
theorem dksX2_save_0 : cX2_save.data.toList.drop 0 = dktX2_save_0 := by decide +kernel
theorem dksX2_save_1 : cX2_save.data.toList.drop 24 = dktX2_save_1 := dk_seg dksX2_save_0 24 rfl rfl
theorem dX2_save_0 : decode cX2_save 0 = .ok (.iload_n 1, 1) := dk_27 (dk_at dksX2_save_0 0 rfl rfl)
theorem dX2_save_1 : decode cX2_save 1 = .ok (.iconst 0, 1) := dk_3 (dk_at dksX2_save_0 1 rfl rfl)
theorem dX2_save_2 : decode cX2_save 2 = .ok (.iconst 1, 1) := dk_4 (dk_at dksX2_save_0 2 rfl rfl)
theorem dX2_save_3 : decode cX2_save 3 = .ok (.invokestatic 66, 3) := dk_184 0 66 (dk_at dksX2_save_0 3 rfl rfl)
theorem dX2_save_6 : decode cX2_save 6 = .ok (.invokestatic 70, 3) := dk_184 0 70 (dk_at dksX2_save_0 6 rfl rfl)
theorem dX2_save_9 : decode cX2_save 9 = .ok (.aload_n 0, 1) := dk_42 (dk_at dksX2_save_0 9 rfl rfl)
theorem dX2_save_10 : decode cX2_save 10 = .ok (.getfield 21, 3) := dk_180 0 21 (dk_at dksX2_save_0 10 rfl rfl)
theorem dX2_save_13 : decode cX2_save 13 = .ok (.iload_n 1, 1) := dk_27 (dk_at dksX2_save_0 13 rfl rfl)
theorem dX2_save_14 : decode cX2_save 14 = .ok (.aload_n 0, 1) := dk_42 (dk_at dksX2_save_0 14 rfl rfl)
theorem dX2_save_15 : decode cX2_save 15 = .ok (.getfield 29, 3) := dk_180 0 29 (dk_at dksX2_save_0 15 rfl rfl)
theorem dX2_save_18 : decode cX2_save 18 = .ok (.invokevirtual 73, 3) := dk_182 0 73 (dk_at dksX2_save_0 18 rfl rfl)
theorem dX2_save_21 : decode cX2_save 21 = .ok (.checkcast 49, 3) := dk_192 0 49 (dk_at dksX2_save_0 21 rfl rfl)
theorem dX2_save_24 : decode cX2_save 24 = .ok (.astore_n 2, 1) := dk_77 (dk_at dksX2_save_1 0 rfl rfl)
theorem dX2_save_25 : decode cX2_save 25 = .ok (.return_, 1) := dk_177 (dk_at dksX2_save_1 1 rfl rfl)
abbrev iX2_save : xM := (yX2_save, cX2_save, 3, none, [])
theorem mX2_save : xOkM iX2_save := ⟨by decide +kernel, by decide, q3489, q131⟩
abbrev cX2_restore : ByteArray := prog_6_method_6_code
def yX2_restore : MethodName := ⟨RX2, "restore", "(I)V"⟩
def dkwX2_restore_2 : List UInt8 := [182, 0, 33, 177]
abbrev dktX2_restore_2 : List UInt8 := dkwX2_restore_2 ++ []
def dkwX2_restore_1 : List UInt8 := [3, 184, 0, 59, 42, 42, 180, 0, 21, 27, 182, 0, 77, 192, 0, 49, 181, 0, 29, 42, 180, 0, 12]
abbrev dktX2_restore_1 : List UInt8 := dkwX2_restore_1 ++ dktX2_restore_2
def dkwX2_restore_0 : List UInt8 := [27, 3, 4, 184, 0, 66, 184, 0, 70, 42, 180, 0, 21, 27, 182, 0, 77, 198, 0, 7, 4, 167, 0, 4]
abbrev dktX2_restore_0 : List UInt8 := dkwX2_restore_0 ++ dktX2_restore_1
theorem dksX2_restore_0 : cX2_restore.data.toList.drop 0 = dktX2_restore_0 := by decide +kernel
theorem dksX2_restore_1 : cX2_restore.data.toList.drop 24 = dktX2_restore_1 := dk_seg dksX2_restore_0 24 rfl rfl
theorem dksX2_restore_2 : cX2_restore.data.toList.drop 47 = dktX2_restore_2 := dk_seg dksX2_restore_1 23 rfl rfl
theorem dX2_restore_0 : decode cX2_restore 0 = .ok (.iload_n 1, 1) := dk_27 (dk_at dksX2_restore_0 0 rfl rfl)
theorem dX2_restore_1 : decode cX2_restore 1 = .ok (.iconst 0, 1) := dk_3 (dk_at dksX2_restore_0 1 rfl rfl)
theorem dX2_restore_2 : decode cX2_restore 2 = .ok (.iconst 1, 1) := dk_4 (dk_at dksX2_restore_0 2 rfl rfl)
theorem dX2_restore_3 : decode cX2_restore 3 = .ok (.invokestatic 66, 3) := dk_184 0 66 (dk_at dksX2_restore_0 3 rfl rfl)
theorem dX2_restore_6 : decode cX2_restore 6 = .ok (.invokestatic 70, 3) := dk_184 0 70 (dk_at dksX2_restore_0 6 rfl rfl)
theorem dX2_restore_9 : decode cX2_restore 9 = .ok (.aload_n 0, 1) := dk_42 (dk_at dksX2_restore_0 9 rfl rfl)
theorem dX2_restore_10 : decode cX2_restore 10 = .ok (.getfield 21, 3) := dk_180 0 21 (dk_at dksX2_restore_0 10 rfl rfl)
theorem dX2_restore_13 : decode cX2_restore 13 = .ok (.iload_n 1, 1) := dk_27 (dk_at dksX2_restore_0 13 rfl rfl)
theorem dX2_restore_14 : decode cX2_restore 14 = .ok (.invokevirtual 77, 3) := dk_182 0 77 (dk_at dksX2_restore_0 14 rfl rfl)
theorem dX2_restore_17 : decode cX2_restore 17 = .ok (.ifnull 7, 3) := dk_198 0 7 (dk_at dksX2_restore_0 17 rfl rfl)
theorem dX2_restore_20 : decode cX2_restore 20 = .ok (.iconst 1, 1) := dk_4 (dk_at dksX2_restore_0 20 rfl rfl)
theorem dX2_restore_21 : decode cX2_restore 21 = .ok (.goto 4, 3) := dk_167 0 4 (dk_at dksX2_restore_0 21 rfl rfl)
theorem dX2_restore_24 : decode cX2_restore 24 = .ok (.iconst 0, 1) := dk_3 (dk_at dksX2_restore_1 0 rfl rfl)
theorem dX2_restore_25 : decode cX2_restore 25 = .ok (.invokestatic 59, 3) := dk_184 0 59 (dk_at dksX2_restore_1 1 rfl rfl)
theorem dX2_restore_28 : decode cX2_restore 28 = .ok (.aload_n 0, 1) := dk_42 (dk_at dksX2_restore_1 4 rfl rfl)
theorem dX2_restore_29 : decode cX2_restore 29 = .ok (.aload_n 0, 1) := dk_42 (dk_at dksX2_restore_1 5 rfl rfl)
theorem dX2_restore_30 : decode cX2_restore 30 = .ok (.getfield 21, 3) := dk_180 0 21 (dk_at dksX2_restore_1 6 rfl rfl)
theorem dX2_restore_33 : decode cX2_restore 33 = .ok (.iload_n 1, 1) := dk_27 (dk_at dksX2_restore_1 9 rfl rfl)
theorem dX2_restore_34 : decode cX2_restore 34 = .ok (.invokevirtual 77, 3) := dk_182 0 77 (dk_at dksX2_restore_1 10 rfl rfl)
theorem dX2_restore_37 : decode cX2_restore 37 = .ok (.checkcast 49, 3) := dk_192 0 49 (dk_at dksX2_restore_1 13 rfl rfl)
theorem dX2_restore_40 : decode cX2_restore 40 = .ok (.putfield 29, 3) := dk_181 0 29 (dk_at dksX2_restore_1 16 rfl rfl)
theorem dX2_restore_43 : decode cX2_restore 43 = .ok (.aload_n 0, 1) := dk_42 (dk_at dksX2_restore_1 19 rfl rfl)
theorem dX2_restore_44 : decode cX2_restore 44 = .ok (.getfield 12, 3) := dk_180 0 12 (dk_at dksX2_restore_1 20 rfl rfl)
theorem dX2_restore_47 : decode cX2_restore 47 = .ok (.invokevirtual 33, 3) := dk_182 0 33 (dk_at dksX2_restore_2 0 rfl rfl)
theorem dX2_restore_50 : decode cX2_restore 50 = .ok (.return_, 1) := dk_177 (dk_at dksX2_restore_2 3 rfl rfl)
abbrev iX2_restore : xM := (yX2_restore, cX2_restore, 2, none, [])
theorem mX2_restore : xOkM iX2_restore := ⟨by decide +kernel, by decide, q3503, q131⟩
abbrev cX9_init : ByteArray := prog_7_method_1_code
def yX9_init : MethodName := ⟨RX9, "<init>", "(II)V"⟩
def dkwX9_init_0 : List UInt8 := [42, 1, 1, 3, 3, 183, 0, 1, 42, 27, 181, 0, 7, 42, 28, 181, 0, 13, 177]
abbrev dktX9_init_0 : List UInt8 := dkwX9_init_0 ++ []
theorem dksX9_init_0 : cX9_init.data.toList.drop 0 = dktX9_init_0 := by decide +kernel
theorem dX9_init_0 : decode cX9_init 0 = .ok (.aload_n 0, 1) := dk_42 (dk_at dksX9_init_0 0 rfl rfl)
theorem dX9_init_1 : decode cX9_init 1 = .ok (.aconst_null, 1) := dk_1 (dk_at dksX9_init_0 1 rfl rfl)
theorem dX9_init_2 : decode cX9_init 2 = .ok (.aconst_null, 1) := dk_1 (dk_at dksX9_init_0 2 rfl rfl)
theorem dX9_init_3 : decode cX9_init 3 = .ok (.iconst 0, 1) := dk_3 (dk_at dksX9_init_0 3 rfl rfl)
theorem dX9_init_4 : decode cX9_init 4 = .ok (.iconst 0, 1) := dk_3 (dk_at dksX9_init_0 4 rfl rfl)
theorem dX9_init_5 : decode cX9_init 5 = .ok (.invokespecial 1, 3) := dk_183 0 1 (dk_at dksX9_init_0 5 rfl rfl)
theorem dX9_init_8 : decode cX9_init 8 = .ok (.aload_n 0, 1) := dk_42 (dk_at dksX9_init_0 8 rfl rfl)
theorem dX9_init_9 : decode cX9_init 9 = .ok (.iload_n 1, 1) := dk_27 (dk_at dksX9_init_0 9 rfl rfl)
theorem dX9_init_10 : decode cX9_init 10 = .ok (.putfield 7, 3) := dk_181 0 7 (dk_at dksX9_init_0 10 rfl rfl)
theorem dX9_init_13 : decode cX9_init 13 = .ok (.aload_n 0, 1) := dk_42 (dk_at dksX9_init_0 13 rfl rfl)
theorem dX9_init_14 : decode cX9_init 14 = .ok (.iload_n 2, 1) := dk_28 (dk_at dksX9_init_0 14 rfl rfl)
theorem dX9_init_15 : decode cX9_init 15 = .ok (.putfield 13, 3) := dk_181 0 13 (dk_at dksX9_init_0 15 rfl rfl)
theorem dX9_init_18 : decode cX9_init 18 = .ok (.return_, 1) := dk_177 (dk_at dksX9_init_0 18 rfl rfl)
abbrev iX9_init : xM := (yX9_init, cX9_init, 3, none, [])
theorem mX9_init : xOkM iX9_init := ⟨by decide +kernel, by decide, q2088, q179⟩
abbrev cX10_init : ByteArray := prog_11_method_1_code
def yX10_init : MethodName := ⟨RX10, "<init>", "(I)V"⟩
def dkwX10_init_0 : List UInt8 := [42, 183, 0, 1, 42, 187, 0, 7, 89, 183, 0, 9, 181, 0, 10, 42, 27, 181, 0, 16, 177]
abbrev dktX10_init_0 : List UInt8 := dkwX10_init_0 ++ []
theorem dksX10_init_0 : cX10_init.data.toList.drop 0 = dktX10_init_0 := by decide +kernel
theorem dX10_init_0 : decode cX10_init 0 = .ok (.aload_n 0, 1) := dk_42 (dk_at dksX10_init_0 0 rfl rfl)
theorem dX10_init_1 : decode cX10_init 1 = .ok (.invokespecial 1, 3) := dk_183 0 1 (dk_at dksX10_init_0 1 rfl rfl)
theorem dX10_init_4 : decode cX10_init 4 = .ok (.aload_n 0, 1) := dk_42 (dk_at dksX10_init_0 4 rfl rfl)
theorem dX10_init_5 : decode cX10_init 5 = .ok (.new 7, 3) := dk_187 0 7 (dk_at dksX10_init_0 5 rfl rfl)
theorem dX10_init_8 : decode cX10_init 8 = .ok (.dup, 1) := dk_89 (dk_at dksX10_init_0 8 rfl rfl)
theorem dX10_init_9 : decode cX10_init 9 = .ok (.invokespecial 9, 3) := dk_183 0 9 (dk_at dksX10_init_0 9 rfl rfl)
theorem dX10_init_12 : decode cX10_init 12 = .ok (.putfield 10, 3) := dk_181 0 10 (dk_at dksX10_init_0 12 rfl rfl)
theorem dX10_init_15 : decode cX10_init 15 = .ok (.aload_n 0, 1) := dk_42 (dk_at dksX10_init_0 15 rfl rfl)
theorem dX10_init_16 : decode cX10_init 16 = .ok (.iload_n 1, 1) := dk_27 (dk_at dksX10_init_0 16 rfl rfl)
theorem dX10_init_17 : decode cX10_init 17 = .ok (.putfield 16, 3) := dk_181 0 16 (dk_at dksX10_init_0 17 rfl rfl)
theorem dX10_init_20 : decode cX10_init 20 = .ok (.return_, 1) := dk_177 (dk_at dksX10_init_0 20 rfl rfl)
abbrev iX10_init : xM := (yX10_init, cX10_init, 2, none, [])
theorem mX10_init : xOkM iX10_init := ⟨by decide +kernel, by decide, q2174, q180⟩
abbrev cX10_execute : ByteArray := prog_11_method_2_code
def yX10_execute : MethodName := ⟨RX10, "execute", "(LFiddleRow$Hall;)Z"⟩
def dkwX10_execute_2 : List UInt8 := [167, 255, 220, 132, 2, 1, 167, 255, 204, 4, 172]
abbrev dktX10_execute_2 : List UInt8 := dkwX10_execute_2 ++ []
def dkwX10_execute_1 : List UInt8 := [180, 0, 10, 29, 182, 0, 24, 192, 0, 28, 43, 185, 0, 30, 2, 0, 154, 0, 5, 3, 172, 132, 3, 1]
abbrev dktX10_execute_1 : List UInt8 := dkwX10_execute_1 ++ dktX10_execute_2
def dkwX10_execute_0 : List UInt8 := [3, 61, 28, 42, 180, 0, 16, 162, 0, 50, 3, 62, 29, 42, 180, 0, 10, 182, 0, 20, 162, 0, 31, 42]
abbrev dktX10_execute_0 : List UInt8 := dkwX10_execute_0 ++ dktX10_execute_1
theorem dksX10_execute_0 : cX10_execute.data.toList.drop 0 = dktX10_execute_0 := by decide +kernel
theorem dksX10_execute_1 : cX10_execute.data.toList.drop 24 = dktX10_execute_1 := dk_seg dksX10_execute_0 24 rfl rfl
theorem dksX10_execute_2 : cX10_execute.data.toList.drop 48 = dktX10_execute_2 := dk_seg dksX10_execute_1 24 rfl rfl
theorem dX10_execute_0 : decode cX10_execute 0 = .ok (.iconst 0, 1) := dk_3 (dk_at dksX10_execute_0 0 rfl rfl)
theorem dX10_execute_1 : decode cX10_execute 1 = .ok (.istore_n 2, 1) := dk_61 (dk_at dksX10_execute_0 1 rfl rfl)
theorem dX10_execute_2 : decode cX10_execute 2 = .ok (.iload_n 2, 1) := dk_28 (dk_at dksX10_execute_0 2 rfl rfl)
theorem dX10_execute_3 : decode cX10_execute 3 = .ok (.aload_n 0, 1) := dk_42 (dk_at dksX10_execute_0 3 rfl rfl)
theorem dX10_execute_4 : decode cX10_execute 4 = .ok (.getfield 16, 3) := dk_180 0 16 (dk_at dksX10_execute_0 4 rfl rfl)
theorem dX10_execute_7 : decode cX10_execute 7 = .ok (.if_icmp .ge 50, 3) := dk_162 0 50 (dk_at dksX10_execute_0 7 rfl rfl)
theorem dX10_execute_10 : decode cX10_execute 10 = .ok (.iconst 0, 1) := dk_3 (dk_at dksX10_execute_0 10 rfl rfl)
theorem dX10_execute_11 : decode cX10_execute 11 = .ok (.istore_n 3, 1) := dk_62 (dk_at dksX10_execute_0 11 rfl rfl)
theorem dX10_execute_12 : decode cX10_execute 12 = .ok (.iload_n 3, 1) := dk_29 (dk_at dksX10_execute_0 12 rfl rfl)
theorem dX10_execute_13 : decode cX10_execute 13 = .ok (.aload_n 0, 1) := dk_42 (dk_at dksX10_execute_0 13 rfl rfl)
theorem dX10_execute_14 : decode cX10_execute 14 = .ok (.getfield 10, 3) := dk_180 0 10 (dk_at dksX10_execute_0 14 rfl rfl)
theorem dX10_execute_17 : decode cX10_execute 17 = .ok (.invokevirtual 20, 3) := dk_182 0 20 (dk_at dksX10_execute_0 17 rfl rfl)
theorem dX10_execute_20 : decode cX10_execute 20 = .ok (.if_icmp .ge 31, 3) := dk_162 0 31 (dk_at dksX10_execute_0 20 rfl rfl)
theorem dX10_execute_23 : decode cX10_execute 23 = .ok (.aload_n 0, 1) := dk_42 (dk_at dksX10_execute_0 23 rfl rfl)
theorem dX10_execute_24 : decode cX10_execute 24 = .ok (.getfield 10, 3) := dk_180 0 10 (dk_at dksX10_execute_1 0 rfl rfl)
theorem dX10_execute_27 : decode cX10_execute 27 = .ok (.iload_n 3, 1) := dk_29 (dk_at dksX10_execute_1 3 rfl rfl)
theorem dX10_execute_28 : decode cX10_execute 28 = .ok (.invokevirtual 24, 3) := dk_182 0 24 (dk_at dksX10_execute_1 4 rfl rfl)
theorem dX10_execute_31 : decode cX10_execute 31 = .ok (.checkcast 28, 3) := dk_192 0 28 (dk_at dksX10_execute_1 7 rfl rfl)
theorem dX10_execute_34 : decode cX10_execute 34 = .ok (.aload_n 1, 1) := dk_43 (dk_at dksX10_execute_1 10 rfl rfl)
theorem dX10_execute_35 : decode cX10_execute 35 = .ok (.invokeinterface 30 2, 5) := by decide +kernel
theorem dX10_execute_40 : decode cX10_execute 40 = .ok (.ifCond .ne 5, 3) := dk_154 0 5 (dk_at dksX10_execute_1 16 rfl rfl)
theorem dX10_execute_43 : decode cX10_execute 43 = .ok (.iconst 0, 1) := dk_3 (dk_at dksX10_execute_1 19 rfl rfl)
theorem dX10_execute_44 : decode cX10_execute 44 = .ok (.ireturn, 1) := dk_172 (dk_at dksX10_execute_1 20 rfl rfl)
theorem dX10_execute_45 : decode cX10_execute 45 = .ok (.iinc 3 1, 3) := dk_132 3 1 (dk_at dksX10_execute_1 21 rfl rfl)
theorem dX10_execute_48 : decode cX10_execute 48 = .ok (.goto (-36), 3) := dk_167 255 220 (dk_at dksX10_execute_2 0 rfl rfl)
theorem dX10_execute_51 : decode cX10_execute 51 = .ok (.iinc 2 1, 3) := dk_132 2 1 (dk_at dksX10_execute_2 3 rfl rfl)
theorem dX10_execute_54 : decode cX10_execute 54 = .ok (.goto (-52), 3) := dk_167 255 204 (dk_at dksX10_execute_2 6 rfl rfl)
theorem dX10_execute_57 : decode cX10_execute 57 = .ok (.iconst 1, 1) := dk_4 (dk_at dksX10_execute_2 9 rfl rfl)
theorem dX10_execute_58 : decode cX10_execute 58 = .ok (.ireturn, 1) := dk_172 (dk_at dksX10_execute_2 10 rfl rfl)
abbrev iX10_execute : xM := (yX10_execute, cX10_execute, 4, (some .boolean), [])
theorem mX10_execute : xOkM iX10_execute := ⟨by decide +kernel, by decide, q2590, q180⟩
abbrev cX11_init : ByteArray := prog_2_method_1_code
def yX11_init : MethodName := ⟨RX11, "<init>", "(LFiddleRow;Ljava/lang/String;Ljava/lang/String;Ljava/lang/String;II)V"⟩
def dkwX11_init_1 : List UInt8 := [181, 0, 22, 42, 21, 5, 181, 0, 25, 42, 21, 6, 181, 0, 29, 177]
abbrev dktX11_init_1 : List UInt8 := dkwX11_init_1 ++ []
def dkwX11_init_0 : List UInt8 := [42, 43, 181, 0, 3, 42, 183, 0, 9, 42, 44, 181, 0, 15, 42, 45, 181, 0, 19, 42, 25, 4]
abbrev dktX11_init_0 : List UInt8 := dkwX11_init_0 ++ dktX11_init_1
theorem dksX11_init_0 : cX11_init.data.toList.drop 0 = dktX11_init_0 := by decide +kernel
theorem dksX11_init_1 : cX11_init.data.toList.drop 22 = dktX11_init_1 := dk_seg dksX11_init_0 22 rfl rfl
theorem dX11_init_0 : decode cX11_init 0 = .ok (.aload_n 0, 1) := dk_42 (dk_at dksX11_init_0 0 rfl rfl)
theorem dX11_init_1 : decode cX11_init 1 = .ok (.aload_n 1, 1) := dk_43 (dk_at dksX11_init_0 1 rfl rfl)
theorem dX11_init_2 : decode cX11_init 2 = .ok (.putfield 3, 3) := dk_181 0 3 (dk_at dksX11_init_0 2 rfl rfl)
theorem dX11_init_5 : decode cX11_init 5 = .ok (.aload_n 0, 1) := dk_42 (dk_at dksX11_init_0 5 rfl rfl)
theorem dX11_init_6 : decode cX11_init 6 = .ok (.invokespecial 9, 3) := dk_183 0 9 (dk_at dksX11_init_0 6 rfl rfl)
theorem dX11_init_9 : decode cX11_init 9 = .ok (.aload_n 0, 1) := dk_42 (dk_at dksX11_init_0 9 rfl rfl)
theorem dX11_init_10 : decode cX11_init 10 = .ok (.aload_n 2, 1) := dk_44 (dk_at dksX11_init_0 10 rfl rfl)
theorem dX11_init_11 : decode cX11_init 11 = .ok (.putfield 15, 3) := dk_181 0 15 (dk_at dksX11_init_0 11 rfl rfl)
theorem dX11_init_14 : decode cX11_init 14 = .ok (.aload_n 0, 1) := dk_42 (dk_at dksX11_init_0 14 rfl rfl)
theorem dX11_init_15 : decode cX11_init 15 = .ok (.aload_n 3, 1) := dk_45 (dk_at dksX11_init_0 15 rfl rfl)
theorem dX11_init_16 : decode cX11_init 16 = .ok (.putfield 19, 3) := dk_181 0 19 (dk_at dksX11_init_0 16 rfl rfl)
theorem dX11_init_19 : decode cX11_init 19 = .ok (.aload_n 0, 1) := dk_42 (dk_at dksX11_init_0 19 rfl rfl)
theorem dX11_init_20 : decode cX11_init 20 = .ok (.aload 4, 2) := dk_25 4 (dk_at dksX11_init_0 20 rfl rfl)
theorem dX11_init_22 : decode cX11_init 22 = .ok (.putfield 22, 3) := dk_181 0 22 (dk_at dksX11_init_1 0 rfl rfl)
theorem dX11_init_25 : decode cX11_init 25 = .ok (.aload_n 0, 1) := dk_42 (dk_at dksX11_init_1 3 rfl rfl)
theorem dX11_init_26 : decode cX11_init 26 = .ok (.iload 5, 2) := dk_21 5 (dk_at dksX11_init_1 4 rfl rfl)
theorem dX11_init_28 : decode cX11_init 28 = .ok (.putfield 25, 3) := dk_181 0 25 (dk_at dksX11_init_1 6 rfl rfl)
theorem dX11_init_31 : decode cX11_init 31 = .ok (.aload_n 0, 1) := dk_42 (dk_at dksX11_init_1 9 rfl rfl)
theorem dX11_init_32 : decode cX11_init 32 = .ok (.iload 6, 2) := dk_21 6 (dk_at dksX11_init_1 10 rfl rfl)
theorem dX11_init_34 : decode cX11_init 34 = .ok (.putfield 29, 3) := dk_181 0 29 (dk_at dksX11_init_1 12 rfl rfl)
theorem dX11_init_37 : decode cX11_init 37 = .ok (.return_, 1) := dk_177 (dk_at dksX11_init_1 15 rfl rfl)
abbrev iX11_init : xM := (yX11_init, cX11_init, 7, none, [])
theorem mX11_init : xOkM iX11_init := ⟨by decide +kernel, by decide, q2235, q181⟩
abbrev cX11_execute : ByteArray := prog_2_method_3_code
def yX11_execute : MethodName := ⟨RX11, "execute", "(LFiddleRow$Hall;)Z"⟩
def dkwX11_execute_1 : List UInt8 := [89, 180, 0, 94, 4, 96, 181, 0, 94, 4, 172, 77, 3, 172]
abbrev dktX11_execute_1 : List UInt8 := dkwX11_execute_1 ++ []
def dkwX11_execute_0 : List UInt8 := [42, 180, 0, 3, 180, 0, 94, 16, 40, 160, 0, 5, 3, 172, 42, 43, 182, 0, 97, 61, 42, 180, 0, 3]
abbrev dktX11_execute_0 : List UInt8 := dkwX11_execute_0 ++ dktX11_execute_1
theorem dksX11_execute_0 : cX11_execute.data.toList.drop 0 = dktX11_execute_0 := by decide +kernel
theorem dksX11_execute_1 : cX11_execute.data.toList.drop 24 = dktX11_execute_1 := dk_seg dksX11_execute_0 24 rfl rfl
theorem dX11_execute_0 : decode cX11_execute 0 = .ok (.aload_n 0, 1) := dk_42 (dk_at dksX11_execute_0 0 rfl rfl)
theorem dX11_execute_1 : decode cX11_execute 1 = .ok (.getfield 3, 3) := dk_180 0 3 (dk_at dksX11_execute_0 1 rfl rfl)
theorem dX11_execute_4 : decode cX11_execute 4 = .ok (.getfield 94, 3) := dk_180 0 94 (dk_at dksX11_execute_0 4 rfl rfl)
theorem dX11_execute_7 : decode cX11_execute 7 = .ok (.bipush 40, 2) := dk_16 40 (dk_at dksX11_execute_0 7 rfl rfl)
theorem dX11_execute_9 : decode cX11_execute 9 = .ok (.if_icmp .ne 5, 3) := dk_160 0 5 (dk_at dksX11_execute_0 9 rfl rfl)
theorem dX11_execute_12 : decode cX11_execute 12 = .ok (.iconst 0, 1) := dk_3 (dk_at dksX11_execute_0 12 rfl rfl)
theorem dX11_execute_13 : decode cX11_execute 13 = .ok (.ireturn, 1) := dk_172 (dk_at dksX11_execute_0 13 rfl rfl)
theorem dX11_execute_14 : decode cX11_execute 14 = .ok (.aload_n 0, 1) := dk_42 (dk_at dksX11_execute_0 14 rfl rfl)
theorem dX11_execute_15 : decode cX11_execute 15 = .ok (.aload_n 1, 1) := dk_43 (dk_at dksX11_execute_0 15 rfl rfl)
theorem dX11_execute_16 : decode cX11_execute 16 = .ok (.invokevirtual 97, 3) := dk_182 0 97 (dk_at dksX11_execute_0 16 rfl rfl)
theorem dX11_execute_19 : decode cX11_execute 19 = .ok (.istore_n 2, 1) := dk_61 (dk_at dksX11_execute_0 19 rfl rfl)
theorem dX11_execute_20 : decode cX11_execute 20 = .ok (.aload_n 0, 1) := dk_42 (dk_at dksX11_execute_0 20 rfl rfl)
theorem dX11_execute_21 : decode cX11_execute 21 = .ok (.getfield 3, 3) := dk_180 0 3 (dk_at dksX11_execute_0 21 rfl rfl)
theorem dX11_execute_24 : decode cX11_execute 24 = .ok (.dup, 1) := dk_89 (dk_at dksX11_execute_1 0 rfl rfl)
theorem dX11_execute_25 : decode cX11_execute 25 = .ok (.getfield 94, 3) := dk_180 0 94 (dk_at dksX11_execute_1 1 rfl rfl)
theorem dX11_execute_28 : decode cX11_execute 28 = .ok (.iconst 1, 1) := dk_4 (dk_at dksX11_execute_1 4 rfl rfl)
theorem dX11_execute_29 : decode cX11_execute 29 = .ok (.iadd, 1) := dk_96 (dk_at dksX11_execute_1 5 rfl rfl)
theorem dX11_execute_30 : decode cX11_execute 30 = .ok (.putfield 94, 3) := dk_181 0 94 (dk_at dksX11_execute_1 6 rfl rfl)
theorem dX11_execute_33 : decode cX11_execute 33 = .ok (.iconst 1, 1) := dk_4 (dk_at dksX11_execute_1 9 rfl rfl)
theorem dX11_execute_34 : decode cX11_execute 34 = .ok (.ireturn, 1) := dk_172 (dk_at dksX11_execute_1 10 rfl rfl)
theorem dX11_execute_35 : decode cX11_execute 35 = .ok (.astore_n 2, 1) := dk_77 (dk_at dksX11_execute_1 11 rfl rfl)
theorem dX11_execute_36 : decode cX11_execute 36 = .ok (.iconst 0, 1) := dk_3 (dk_at dksX11_execute_1 12 rfl rfl)
theorem dX11_execute_37 : decode cX11_execute 37 = .ok (.ireturn, 1) := dk_172 (dk_at dksX11_execute_1 13 rfl rfl)
abbrev iX11_execute : xM := (yX11_execute, cX11_execute, 3, (some .boolean), [(14, 34, 35, 101), (14, 34, 35, 103), (14, 34, 35, 105)])
theorem mX11_execute : xOkM iX11_execute := ⟨by decide +kernel, by decide, q2603, q181⟩
abbrev cX11_run : ByteArray := prog_2_method_2_code
def yX11_run : MethodName := ⟨RX11, "run", "(LFiddleRow$Hall;)I"⟩
def dkwX11_run_13 : List UInt8 := [182, 0, 91, 172]
abbrev dktX11_run_13 : List UInt8 := dkwX11_run_13 ++ []
def dkwX11_run_12 : List UInt8 := [28, 182, 0, 85, 167, 0, 22, 43, 42, 180, 0, 29, 182, 0, 88, 167, 0, 11, 43, 42, 180, 0, 29]
abbrev dktX11_run_12 : List UInt8 := dkwX11_run_12 ++ dktX11_run_13
def dkwX11_run_11 : List UInt8 := [28, 43, 42, 180, 0, 22, 182, 0, 32, 182, 0, 78, 167, 0, 38, 43, 28, 182, 0, 81, 167, 0, 30, 43]
abbrev dktX11_run_11 : List UInt8 := dkwX11_run_11 ++ dktX11_run_12
def dkwX11_run_10 : List UInt8 := [28, 42, 180, 0, 25, 182, 0, 71, 167, 0, 66, 43, 28, 42, 180, 0, 25, 182, 0, 75, 167, 0, 54, 43]
abbrev dktX11_run_10 : List UInt8 := dkwX11_run_10 ++ dktX11_run_11
def dkwX11_run_9 : List UInt8 := [43, 182, 0, 64, 167, 0, 94, 43, 28, 42, 180, 0, 25, 42, 180, 0, 29, 182, 0, 67, 167, 0, 78, 43]
abbrev dktX11_run_9 : List UInt8 := dkwX11_run_9 ++ dktX11_run_10
def dkwX11_run_8 : List UInt8 := [170, 0, 0, 0, 0, 0, 137, 0, 0, 0, 0, 0, 0, 0, 7, 0, 0, 0, 47, 0, 0, 0, 54, 0, 0, 0, 70, 0, 0, 0, 82, 0, 0, 0, 94, 0, 0, 0, 110, 0, 0, 0, 118, 0, 0, 0, 126]
abbrev dktX11_run_8 : List UInt8 := dkwX11_run_8 ++ dktX11_run_9
def dkwX11_run_7 : List UInt8 := [21, 4]
abbrev dktX11_run_7 : List UInt8 := dkwX11_run_7 ++ dktX11_run_8
def dkwX11_run_6 : List UInt8 := [153, 0, 23, 16, 6, 54, 4, 167, 0, 16, 45, 18, 62, 182, 0, 46, 153, 0, 7, 16, 7, 54, 4]
abbrev dktX11_run_6 : List UInt8 := dkwX11_run_6 ++ dktX11_run_7
def dkwX11_run_5 : List UInt8 := [167, 0, 47, 45, 18, 58, 182, 0, 46, 153, 0, 38, 8, 54, 4, 167, 0, 32, 45, 18, 60, 182, 0, 46]
abbrev dktX11_run_5 : List UInt8 := dkwX11_run_5 ++ dktX11_run_6
def dkwX11_run_4 : List UInt8 := [182, 0, 46, 153, 0, 68, 6, 54, 4, 167, 0, 62, 45, 18, 56, 182, 0, 46, 153, 0, 53, 7, 54, 4]
abbrev dktX11_run_4 : List UInt8 := dkwX11_run_4 ++ dktX11_run_5
def dkwX11_run_3 : List UInt8 := [4, 54, 4, 167, 0, 92, 45, 18, 52, 182, 0, 46, 153, 0, 83, 5, 54, 4, 167, 0, 77, 45, 18, 54]
abbrev dktX11_run_3 : List UInt8 := dkwX11_run_3 ++ dktX11_run_4
def dkwX11_run_2 : List UInt8 := [45, 18, 44, 182, 0, 46, 153, 0, 113, 3, 54, 4, 167, 0, 107, 45, 18, 50, 182, 0, 46, 153, 0, 98]
abbrev dktX11_run_2 : List UInt8 := dkwX11_run_2 ++ dktX11_run_3
def dkwX11_run_1 : List UInt8 := [171, 0, 0, 0, 0, 0, 194, 0, 0, 0, 8, 203, 126, 113, 145, 0, 0, 0, 181, 0, 49, 221, 42, 0, 0, 0, 165, 0, 54, 17, 147, 0, 0, 0, 135, 0, 54, 127, 248, 0, 0, 0, 75, 0, 54, 128, 125, 0, 0, 0, 90, 5, 163, 215, 27, 0, 0, 0, 105, 6, 33, 78, 183, 0, 0, 0, 150, 65, 60, 178, 180, 0, 0, 0, 120]
abbrev dktX11_run_1 : List UInt8 := dkwX11_run_1 ++ dktX11_run_2
def dkwX11_run_0 : List UInt8 := [43, 42, 180, 0, 19, 182, 0, 32, 61, 42, 180, 0, 15, 78, 2, 54, 4, 45, 182, 0, 38]
abbrev dktX11_run_0 : List UInt8 := dkwX11_run_0 ++ dktX11_run_1
theorem dksX11_run_0 : cX11_run.data.toList.drop 0 = dktX11_run_0 := by decide +kernel
theorem dksX11_run_1 : cX11_run.data.toList.drop 21 = dktX11_run_1 := dk_seg dksX11_run_0 21 rfl rfl
theorem dksX11_run_2 : cX11_run.data.toList.drop 96 = dktX11_run_2 := dk_seg dksX11_run_1 75 rfl rfl
theorem dksX11_run_3 : cX11_run.data.toList.drop 120 = dktX11_run_3 := dk_seg dksX11_run_2 24 rfl rfl
theorem dksX11_run_4 : cX11_run.data.toList.drop 144 = dktX11_run_4 := dk_seg dksX11_run_3 24 rfl rfl
theorem dksX11_run_5 : cX11_run.data.toList.drop 168 = dktX11_run_5 := dk_seg dksX11_run_4 24 rfl rfl
theorem dksX11_run_6 : cX11_run.data.toList.drop 192 = dktX11_run_6 := dk_seg dksX11_run_5 24 rfl rfl
theorem dksX11_run_7 : cX11_run.data.toList.drop 215 = dktX11_run_7 := dk_seg dksX11_run_6 23 rfl rfl
theorem dksX11_run_8 : cX11_run.data.toList.drop 217 = dktX11_run_8 := dk_seg dksX11_run_7 2 rfl rfl
theorem dksX11_run_9 : cX11_run.data.toList.drop 264 = dktX11_run_9 := dk_seg dksX11_run_8 47 rfl rfl
theorem dksX11_run_10 : cX11_run.data.toList.drop 288 = dktX11_run_10 := dk_seg dksX11_run_9 24 rfl rfl
theorem dksX11_run_11 : cX11_run.data.toList.drop 312 = dktX11_run_11 := dk_seg dksX11_run_10 24 rfl rfl
theorem dksX11_run_12 : cX11_run.data.toList.drop 336 = dktX11_run_12 := dk_seg dksX11_run_11 24 rfl rfl
theorem dksX11_run_13 : cX11_run.data.toList.drop 359 = dktX11_run_13 := dk_seg dksX11_run_12 23 rfl rfl
theorem dX11_run_0 : decode cX11_run 0 = .ok (.aload_n 1, 1) := dk_43 (dk_at dksX11_run_0 0 rfl rfl)
theorem dX11_run_1 : decode cX11_run 1 = .ok (.aload_n 0, 1) := dk_42 (dk_at dksX11_run_0 1 rfl rfl)
theorem dX11_run_2 : decode cX11_run 2 = .ok (.getfield 19, 3) := dk_180 0 19 (dk_at dksX11_run_0 2 rfl rfl)
theorem dX11_run_5 : decode cX11_run 5 = .ok (.invokevirtual 32, 3) := dk_182 0 32 (dk_at dksX11_run_0 5 rfl rfl)
theorem dX11_run_8 : decode cX11_run 8 = .ok (.istore_n 2, 1) := dk_61 (dk_at dksX11_run_0 8 rfl rfl)
theorem dX11_run_9 : decode cX11_run 9 = .ok (.aload_n 0, 1) := dk_42 (dk_at dksX11_run_0 9 rfl rfl)
theorem dX11_run_10 : decode cX11_run 10 = .ok (.getfield 15, 3) := dk_180 0 15 (dk_at dksX11_run_0 10 rfl rfl)
theorem dX11_run_13 : decode cX11_run 13 = .ok (.astore_n 3, 1) := dk_78 (dk_at dksX11_run_0 13 rfl rfl)
theorem dX11_run_14 : decode cX11_run 14 = .ok (.iconst (-1), 1) := dk_2 (dk_at dksX11_run_0 14 rfl rfl)
theorem dX11_run_15 : decode cX11_run 15 = .ok (.istore 4, 2) := dk_54 4 (dk_at dksX11_run_0 15 rfl rfl)
theorem dX11_run_17 : decode cX11_run 17 = .ok (.aload_n 3, 1) := dk_45 (dk_at dksX11_run_0 17 rfl rfl)
theorem dX11_run_18 : decode cX11_run 18 = .ok (.invokevirtual 38, 3) := dk_182 0 38 (dk_at dksX11_run_0 18 rfl rfl)
theorem dX11_run_21 : decode cX11_run 21 = .ok (.lookupswitch 194 #[(-880905839, 181), (3267882, 165), (3543443, 135), (3571704, 75), (3571837, 90), (94623515, 105), (102846135, 150), (1094496948, 120)], 75) := by decide +kernel
theorem dX11_run_96 : decode cX11_run 96 = .ok (.aload_n 3, 1) := dk_45 (dk_at dksX11_run_2 0 rfl rfl)
theorem dX11_run_97 : decode cX11_run 97 = .ok (.ldc 44, 2) := dk_18 44 (dk_at dksX11_run_2 1 rfl rfl)
theorem dX11_run_99 : decode cX11_run 99 = .ok (.invokevirtual 46, 3) := dk_182 0 46 (dk_at dksX11_run_2 3 rfl rfl)
theorem dX11_run_102 : decode cX11_run 102 = .ok (.ifCond .eq 113, 3) := dk_153 0 113 (dk_at dksX11_run_2 6 rfl rfl)
theorem dX11_run_105 : decode cX11_run 105 = .ok (.iconst 0, 1) := dk_3 (dk_at dksX11_run_2 9 rfl rfl)
theorem dX11_run_106 : decode cX11_run 106 = .ok (.istore 4, 2) := dk_54 4 (dk_at dksX11_run_2 10 rfl rfl)
theorem dX11_run_108 : decode cX11_run 108 = .ok (.goto 107, 3) := dk_167 0 107 (dk_at dksX11_run_2 12 rfl rfl)
theorem dX11_run_111 : decode cX11_run 111 = .ok (.aload_n 3, 1) := dk_45 (dk_at dksX11_run_2 15 rfl rfl)
theorem dX11_run_112 : decode cX11_run 112 = .ok (.ldc 50, 2) := dk_18 50 (dk_at dksX11_run_2 16 rfl rfl)
theorem dX11_run_114 : decode cX11_run 114 = .ok (.invokevirtual 46, 3) := dk_182 0 46 (dk_at dksX11_run_2 18 rfl rfl)
theorem dX11_run_117 : decode cX11_run 117 = .ok (.ifCond .eq 98, 3) := dk_153 0 98 (dk_at dksX11_run_2 21 rfl rfl)
theorem dX11_run_120 : decode cX11_run 120 = .ok (.iconst 1, 1) := dk_4 (dk_at dksX11_run_3 0 rfl rfl)
theorem dX11_run_121 : decode cX11_run 121 = .ok (.istore 4, 2) := dk_54 4 (dk_at dksX11_run_3 1 rfl rfl)
theorem dX11_run_123 : decode cX11_run 123 = .ok (.goto 92, 3) := dk_167 0 92 (dk_at dksX11_run_3 3 rfl rfl)
theorem dX11_run_126 : decode cX11_run 126 = .ok (.aload_n 3, 1) := dk_45 (dk_at dksX11_run_3 6 rfl rfl)
theorem dX11_run_127 : decode cX11_run 127 = .ok (.ldc 52, 2) := dk_18 52 (dk_at dksX11_run_3 7 rfl rfl)
theorem dX11_run_129 : decode cX11_run 129 = .ok (.invokevirtual 46, 3) := dk_182 0 46 (dk_at dksX11_run_3 9 rfl rfl)
theorem dX11_run_132 : decode cX11_run 132 = .ok (.ifCond .eq 83, 3) := dk_153 0 83 (dk_at dksX11_run_3 12 rfl rfl)
theorem dX11_run_135 : decode cX11_run 135 = .ok (.iconst 2, 1) := dk_5 (dk_at dksX11_run_3 15 rfl rfl)
theorem dX11_run_136 : decode cX11_run 136 = .ok (.istore 4, 2) := dk_54 4 (dk_at dksX11_run_3 16 rfl rfl)
theorem dX11_run_138 : decode cX11_run 138 = .ok (.goto 77, 3) := dk_167 0 77 (dk_at dksX11_run_3 18 rfl rfl)
theorem dX11_run_141 : decode cX11_run 141 = .ok (.aload_n 3, 1) := dk_45 (dk_at dksX11_run_3 21 rfl rfl)
theorem dX11_run_142 : decode cX11_run 142 = .ok (.ldc 54, 2) := dk_18 54 (dk_at dksX11_run_3 22 rfl rfl)
theorem dX11_run_144 : decode cX11_run 144 = .ok (.invokevirtual 46, 3) := dk_182 0 46 (dk_at dksX11_run_4 0 rfl rfl)
theorem dX11_run_147 : decode cX11_run 147 = .ok (.ifCond .eq 68, 3) := dk_153 0 68 (dk_at dksX11_run_4 3 rfl rfl)
theorem dX11_run_150 : decode cX11_run 150 = .ok (.iconst 3, 1) := dk_6 (dk_at dksX11_run_4 6 rfl rfl)
theorem dX11_run_151 : decode cX11_run 151 = .ok (.istore 4, 2) := dk_54 4 (dk_at dksX11_run_4 7 rfl rfl)
theorem dX11_run_153 : decode cX11_run 153 = .ok (.goto 62, 3) := dk_167 0 62 (dk_at dksX11_run_4 9 rfl rfl)
theorem dX11_run_156 : decode cX11_run 156 = .ok (.aload_n 3, 1) := dk_45 (dk_at dksX11_run_4 12 rfl rfl)
theorem dX11_run_157 : decode cX11_run 157 = .ok (.ldc 56, 2) := dk_18 56 (dk_at dksX11_run_4 13 rfl rfl)
theorem dX11_run_159 : decode cX11_run 159 = .ok (.invokevirtual 46, 3) := dk_182 0 46 (dk_at dksX11_run_4 15 rfl rfl)
theorem dX11_run_162 : decode cX11_run 162 = .ok (.ifCond .eq 53, 3) := dk_153 0 53 (dk_at dksX11_run_4 18 rfl rfl)
theorem dX11_run_165 : decode cX11_run 165 = .ok (.iconst 4, 1) := dk_7 (dk_at dksX11_run_4 21 rfl rfl)
theorem dX11_run_166 : decode cX11_run 166 = .ok (.istore 4, 2) := dk_54 4 (dk_at dksX11_run_4 22 rfl rfl)
theorem dX11_run_168 : decode cX11_run 168 = .ok (.goto 47, 3) := dk_167 0 47 (dk_at dksX11_run_5 0 rfl rfl)
theorem dX11_run_171 : decode cX11_run 171 = .ok (.aload_n 3, 1) := dk_45 (dk_at dksX11_run_5 3 rfl rfl)
theorem dX11_run_172 : decode cX11_run 172 = .ok (.ldc 58, 2) := dk_18 58 (dk_at dksX11_run_5 4 rfl rfl)
theorem dX11_run_174 : decode cX11_run 174 = .ok (.invokevirtual 46, 3) := dk_182 0 46 (dk_at dksX11_run_5 6 rfl rfl)
theorem dX11_run_177 : decode cX11_run 177 = .ok (.ifCond .eq 38, 3) := dk_153 0 38 (dk_at dksX11_run_5 9 rfl rfl)
theorem dX11_run_180 : decode cX11_run 180 = .ok (.iconst 5, 1) := dk_8 (dk_at dksX11_run_5 12 rfl rfl)
theorem dX11_run_181 : decode cX11_run 181 = .ok (.istore 4, 2) := dk_54 4 (dk_at dksX11_run_5 13 rfl rfl)
theorem dX11_run_183 : decode cX11_run 183 = .ok (.goto 32, 3) := dk_167 0 32 (dk_at dksX11_run_5 15 rfl rfl)
theorem dX11_run_186 : decode cX11_run 186 = .ok (.aload_n 3, 1) := dk_45 (dk_at dksX11_run_5 18 rfl rfl)
theorem dX11_run_187 : decode cX11_run 187 = .ok (.ldc 60, 2) := dk_18 60 (dk_at dksX11_run_5 19 rfl rfl)
theorem dX11_run_189 : decode cX11_run 189 = .ok (.invokevirtual 46, 3) := dk_182 0 46 (dk_at dksX11_run_5 21 rfl rfl)
theorem dX11_run_192 : decode cX11_run 192 = .ok (.ifCond .eq 23, 3) := dk_153 0 23 (dk_at dksX11_run_6 0 rfl rfl)
theorem dX11_run_195 : decode cX11_run 195 = .ok (.bipush 6, 2) := dk_16 6 (dk_at dksX11_run_6 3 rfl rfl)
theorem dX11_run_197 : decode cX11_run 197 = .ok (.istore 4, 2) := dk_54 4 (dk_at dksX11_run_6 5 rfl rfl)
theorem dX11_run_199 : decode cX11_run 199 = .ok (.goto 16, 3) := dk_167 0 16 (dk_at dksX11_run_6 7 rfl rfl)
theorem dX11_run_202 : decode cX11_run 202 = .ok (.aload_n 3, 1) := dk_45 (dk_at dksX11_run_6 10 rfl rfl)
theorem dX11_run_203 : decode cX11_run 203 = .ok (.ldc 62, 2) := dk_18 62 (dk_at dksX11_run_6 11 rfl rfl)
theorem dX11_run_205 : decode cX11_run 205 = .ok (.invokevirtual 46, 3) := dk_182 0 46 (dk_at dksX11_run_6 13 rfl rfl)
theorem dX11_run_208 : decode cX11_run 208 = .ok (.ifCond .eq 7, 3) := dk_153 0 7 (dk_at dksX11_run_6 16 rfl rfl)
theorem dX11_run_211 : decode cX11_run 211 = .ok (.bipush 7, 2) := dk_16 7 (dk_at dksX11_run_6 19 rfl rfl)
theorem dX11_run_213 : decode cX11_run 213 = .ok (.istore 4, 2) := dk_54 4 (dk_at dksX11_run_6 21 rfl rfl)
theorem dX11_run_215 : decode cX11_run 215 = .ok (.iload 4, 2) := dk_21 4 (dk_at dksX11_run_7 0 rfl rfl)
theorem dX11_run_217 : decode cX11_run 217 = .ok (.tableswitch 137 0 7 #[47, 54, 70, 82, 94, 110, 118, 126], 47) := by decide +kernel
theorem dX11_run_264 : decode cX11_run 264 = .ok (.aload_n 1, 1) := dk_43 (dk_at dksX11_run_9 0 rfl rfl)
theorem dX11_run_265 : decode cX11_run 265 = .ok (.invokevirtual 64, 3) := dk_182 0 64 (dk_at dksX11_run_9 1 rfl rfl)
theorem dX11_run_268 : decode cX11_run 268 = .ok (.goto 94, 3) := dk_167 0 94 (dk_at dksX11_run_9 4 rfl rfl)
theorem dX11_run_271 : decode cX11_run 271 = .ok (.aload_n 1, 1) := dk_43 (dk_at dksX11_run_9 7 rfl rfl)
theorem dX11_run_272 : decode cX11_run 272 = .ok (.iload_n 2, 1) := dk_28 (dk_at dksX11_run_9 8 rfl rfl)
theorem dX11_run_273 : decode cX11_run 273 = .ok (.aload_n 0, 1) := dk_42 (dk_at dksX11_run_9 9 rfl rfl)
theorem dX11_run_274 : decode cX11_run 274 = .ok (.getfield 25, 3) := dk_180 0 25 (dk_at dksX11_run_9 10 rfl rfl)
theorem dX11_run_277 : decode cX11_run 277 = .ok (.aload_n 0, 1) := dk_42 (dk_at dksX11_run_9 13 rfl rfl)
theorem dX11_run_278 : decode cX11_run 278 = .ok (.getfield 29, 3) := dk_180 0 29 (dk_at dksX11_run_9 14 rfl rfl)
theorem dX11_run_281 : decode cX11_run 281 = .ok (.invokevirtual 67, 3) := dk_182 0 67 (dk_at dksX11_run_9 17 rfl rfl)
theorem dX11_run_284 : decode cX11_run 284 = .ok (.goto 78, 3) := dk_167 0 78 (dk_at dksX11_run_9 20 rfl rfl)
theorem dX11_run_287 : decode cX11_run 287 = .ok (.aload_n 1, 1) := dk_43 (dk_at dksX11_run_9 23 rfl rfl)
theorem dX11_run_288 : decode cX11_run 288 = .ok (.iload_n 2, 1) := dk_28 (dk_at dksX11_run_10 0 rfl rfl)
theorem dX11_run_289 : decode cX11_run 289 = .ok (.aload_n 0, 1) := dk_42 (dk_at dksX11_run_10 1 rfl rfl)
theorem dX11_run_290 : decode cX11_run 290 = .ok (.getfield 25, 3) := dk_180 0 25 (dk_at dksX11_run_10 2 rfl rfl)
theorem dX11_run_293 : decode cX11_run 293 = .ok (.invokevirtual 71, 3) := dk_182 0 71 (dk_at dksX11_run_10 5 rfl rfl)
theorem dX11_run_296 : decode cX11_run 296 = .ok (.goto 66, 3) := dk_167 0 66 (dk_at dksX11_run_10 8 rfl rfl)
theorem dX11_run_299 : decode cX11_run 299 = .ok (.aload_n 1, 1) := dk_43 (dk_at dksX11_run_10 11 rfl rfl)
theorem dX11_run_300 : decode cX11_run 300 = .ok (.iload_n 2, 1) := dk_28 (dk_at dksX11_run_10 12 rfl rfl)
theorem dX11_run_301 : decode cX11_run 301 = .ok (.aload_n 0, 1) := dk_42 (dk_at dksX11_run_10 13 rfl rfl)
theorem dX11_run_302 : decode cX11_run 302 = .ok (.getfield 25, 3) := dk_180 0 25 (dk_at dksX11_run_10 14 rfl rfl)
theorem dX11_run_305 : decode cX11_run 305 = .ok (.invokevirtual 75, 3) := dk_182 0 75 (dk_at dksX11_run_10 17 rfl rfl)
theorem dX11_run_308 : decode cX11_run 308 = .ok (.goto 54, 3) := dk_167 0 54 (dk_at dksX11_run_10 20 rfl rfl)
theorem dX11_run_311 : decode cX11_run 311 = .ok (.aload_n 1, 1) := dk_43 (dk_at dksX11_run_10 23 rfl rfl)
theorem dX11_run_312 : decode cX11_run 312 = .ok (.iload_n 2, 1) := dk_28 (dk_at dksX11_run_11 0 rfl rfl)
theorem dX11_run_313 : decode cX11_run 313 = .ok (.aload_n 1, 1) := dk_43 (dk_at dksX11_run_11 1 rfl rfl)
theorem dX11_run_314 : decode cX11_run 314 = .ok (.aload_n 0, 1) := dk_42 (dk_at dksX11_run_11 2 rfl rfl)
theorem dX11_run_315 : decode cX11_run 315 = .ok (.getfield 22, 3) := dk_180 0 22 (dk_at dksX11_run_11 3 rfl rfl)
theorem dX11_run_318 : decode cX11_run 318 = .ok (.invokevirtual 32, 3) := dk_182 0 32 (dk_at dksX11_run_11 6 rfl rfl)
theorem dX11_run_321 : decode cX11_run 321 = .ok (.invokevirtual 78, 3) := dk_182 0 78 (dk_at dksX11_run_11 9 rfl rfl)
theorem dX11_run_324 : decode cX11_run 324 = .ok (.goto 38, 3) := dk_167 0 38 (dk_at dksX11_run_11 12 rfl rfl)
theorem dX11_run_327 : decode cX11_run 327 = .ok (.aload_n 1, 1) := dk_43 (dk_at dksX11_run_11 15 rfl rfl)
theorem dX11_run_328 : decode cX11_run 328 = .ok (.iload_n 2, 1) := dk_28 (dk_at dksX11_run_11 16 rfl rfl)
theorem dX11_run_329 : decode cX11_run 329 = .ok (.invokevirtual 81, 3) := dk_182 0 81 (dk_at dksX11_run_11 17 rfl rfl)
theorem dX11_run_332 : decode cX11_run 332 = .ok (.goto 30, 3) := dk_167 0 30 (dk_at dksX11_run_11 20 rfl rfl)
theorem dX11_run_335 : decode cX11_run 335 = .ok (.aload_n 1, 1) := dk_43 (dk_at dksX11_run_11 23 rfl rfl)
theorem dX11_run_336 : decode cX11_run 336 = .ok (.iload_n 2, 1) := dk_28 (dk_at dksX11_run_12 0 rfl rfl)
theorem dX11_run_337 : decode cX11_run 337 = .ok (.invokevirtual 85, 3) := dk_182 0 85 (dk_at dksX11_run_12 1 rfl rfl)
theorem dX11_run_340 : decode cX11_run 340 = .ok (.goto 22, 3) := dk_167 0 22 (dk_at dksX11_run_12 4 rfl rfl)
theorem dX11_run_343 : decode cX11_run 343 = .ok (.aload_n 1, 1) := dk_43 (dk_at dksX11_run_12 7 rfl rfl)
theorem dX11_run_344 : decode cX11_run 344 = .ok (.aload_n 0, 1) := dk_42 (dk_at dksX11_run_12 8 rfl rfl)
theorem dX11_run_345 : decode cX11_run 345 = .ok (.getfield 29, 3) := dk_180 0 29 (dk_at dksX11_run_12 9 rfl rfl)
theorem dX11_run_348 : decode cX11_run 348 = .ok (.invokevirtual 88, 3) := dk_182 0 88 (dk_at dksX11_run_12 12 rfl rfl)
theorem dX11_run_351 : decode cX11_run 351 = .ok (.goto 11, 3) := dk_167 0 11 (dk_at dksX11_run_12 15 rfl rfl)
theorem dX11_run_354 : decode cX11_run 354 = .ok (.aload_n 1, 1) := dk_43 (dk_at dksX11_run_12 18 rfl rfl)
theorem dX11_run_355 : decode cX11_run 355 = .ok (.aload_n 0, 1) := dk_42 (dk_at dksX11_run_12 19 rfl rfl)
theorem dX11_run_356 : decode cX11_run 356 = .ok (.getfield 29, 3) := dk_180 0 29 (dk_at dksX11_run_12 20 rfl rfl)
theorem dX11_run_359 : decode cX11_run 359 = .ok (.invokevirtual 91, 3) := dk_182 0 91 (dk_at dksX11_run_13 0 rfl rfl)
theorem dX11_run_362 : decode cX11_run 362 = .ok (.ireturn, 1) := dk_172 (dk_at dksX11_run_13 3 rfl rfl)
abbrev iX11_run : xM := (yX11_run, cX11_run, 5, (some .int), [])
theorem mX11_run : xOkM iX11_run := ⟨by decide +kernel, by decide, q2628, q181⟩
abbrev cX8_init : ByteArray := prog_8_method_1_code
def yX8_init : MethodName := ⟨RX8, "<init>", "(LFiddleRow;)V"⟩
def dkwX8_init_1 : List UInt8 := [181, 0, 24, 42, 178, 0, 28, 181, 0, 34, 42, 182, 0, 37, 177]
abbrev dktX8_init_1 : List UInt8 := dkwX8_init_1 ++ []
def dkwX8_init_0 : List UInt8 := [42, 43, 181, 0, 3, 42, 183, 0, 9, 42, 42, 180, 0, 3, 180, 0, 15, 181, 0, 19, 42, 18, 22]
abbrev dktX8_init_0 : List UInt8 := dkwX8_init_0 ++ dktX8_init_1
theorem dksX8_init_0 : cX8_init.data.toList.drop 0 = dktX8_init_0 := by decide +kernel
theorem dksX8_init_1 : cX8_init.data.toList.drop 23 = dktX8_init_1 := dk_seg dksX8_init_0 23 rfl rfl
theorem dX8_init_0 : decode cX8_init 0 = .ok (.aload_n 0, 1) := dk_42 (dk_at dksX8_init_0 0 rfl rfl)
theorem dX8_init_1 : decode cX8_init 1 = .ok (.aload_n 1, 1) := dk_43 (dk_at dksX8_init_0 1 rfl rfl)
theorem dX8_init_2 : decode cX8_init 2 = .ok (.putfield 3, 3) := dk_181 0 3 (dk_at dksX8_init_0 2 rfl rfl)
theorem dX8_init_5 : decode cX8_init 5 = .ok (.aload_n 0, 1) := dk_42 (dk_at dksX8_init_0 5 rfl rfl)
theorem dX8_init_6 : decode cX8_init 6 = .ok (.invokespecial 9, 3) := dk_183 0 9 (dk_at dksX8_init_0 6 rfl rfl)
theorem dX8_init_9 : decode cX8_init 9 = .ok (.aload_n 0, 1) := dk_42 (dk_at dksX8_init_0 9 rfl rfl)
theorem dX8_init_10 : decode cX8_init 10 = .ok (.aload_n 0, 1) := dk_42 (dk_at dksX8_init_0 10 rfl rfl)
theorem dX8_init_11 : decode cX8_init 11 = .ok (.getfield 3, 3) := dk_180 0 3 (dk_at dksX8_init_0 11 rfl rfl)
theorem dX8_init_14 : decode cX8_init 14 = .ok (.getfield 15, 3) := dk_180 0 15 (dk_at dksX8_init_0 14 rfl rfl)
theorem dX8_init_17 : decode cX8_init 17 = .ok (.putfield 19, 3) := dk_181 0 19 (dk_at dksX8_init_0 17 rfl rfl)
theorem dX8_init_20 : decode cX8_init 20 = .ok (.aload_n 0, 1) := dk_42 (dk_at dksX8_init_0 20 rfl rfl)
theorem dX8_init_21 : decode cX8_init 21 = .ok (.ldc 22, 2) := dk_18 22 (dk_at dksX8_init_0 21 rfl rfl)
theorem dX8_init_23 : decode cX8_init 23 = .ok (.putfield 24, 3) := dk_181 0 24 (dk_at dksX8_init_1 0 rfl rfl)
theorem dX8_init_26 : decode cX8_init 26 = .ok (.aload_n 0, 1) := dk_42 (dk_at dksX8_init_1 3 rfl rfl)
theorem dX8_init_27 : decode cX8_init 27 = .ok (.getstatic 28, 3) := dk_178 0 28 (dk_at dksX8_init_1 4 rfl rfl)
theorem dX8_init_30 : decode cX8_init 30 = .ok (.putfield 34, 3) := dk_181 0 34 (dk_at dksX8_init_1 7 rfl rfl)
theorem dX8_init_33 : decode cX8_init 33 = .ok (.aload_n 0, 1) := dk_42 (dk_at dksX8_init_1 10 rfl rfl)
theorem dX8_init_34 : decode cX8_init 34 = .ok (.invokevirtual 37, 3) := dk_182 0 37 (dk_at dksX8_init_1 11 rfl rfl)
theorem dX8_init_37 : decode cX8_init 37 = .ok (.return_, 1) := dk_177 (dk_at dksX8_init_1 14 rfl rfl)
abbrev iX8_init : xM := (yX8_init, cX8_init, 2, none, [])
theorem mX8_init : xOkM iX8_init := ⟨by decide +kernel, by decide, q2011, q176⟩
abbrev cX8_advanceToken : ByteArray := prog_8_method_3_code
def yX8_advanceToken : MethodName := ⟨RX8, "advanceToken", "()V"⟩
def dkwX8_advanceToken_11 : List UInt8 := [180, 0, 44, 4, 96, 181, 0, 44, 177]
abbrev dktX8_advanceToken_11 : List UInt8 := dkwX8_advanceToken_11 ++ []
def dkwX8_advanceToken_10 : List UInt8 := [167, 255, 199, 42, 178, 0, 81, 181, 0, 34, 167, 0, 20, 42, 178, 0, 84, 181, 0, 34, 42, 89]
abbrev dktX8_advanceToken_10 : List UInt8 := dkwX8_advanceToken_10 ++ dktX8_advanceToken_11
def dkwX8_advanceToken_9 : List UInt8 := [182, 0, 47, 96, 16, 48, 100, 184, 0, 75, 181, 0, 72, 42, 89, 180, 0, 44, 4, 96, 181, 0, 44]
abbrev dktX8_advanceToken_9 : List UInt8 := dkwX8_advanceToken_9 ++ dktX8_advanceToken_10
def dkwX8_advanceToken_8 : List UInt8 := [184, 0, 54, 153, 0, 45, 42, 17, 3, 232, 16, 10, 42, 180, 0, 72, 104, 42, 42, 180, 0, 44]
abbrev dktX8_advanceToken_8 : List UInt8 := dkwX8_advanceToken_8 ++ dktX8_advanceToken_9
def dkwX8_advanceToken_7 : List UInt8 := [184, 0, 54, 153, 0, 78, 42, 3, 181, 0, 72, 42, 42, 180, 0, 44, 182, 0, 47, 16, 48, 16, 57]
abbrev dktX8_advanceToken_7 : List UInt8 := dkwX8_advanceToken_7 ++ dktX8_advanceToken_8
def dkwX8_advanceToken_6 : List UInt8 := [42, 44, 182, 0, 65, 181, 0, 24, 42, 178, 0, 69, 181, 0, 34, 167, 0, 106, 27, 16, 48, 16, 57]
abbrev dktX8_advanceToken_6 : List UInt8 := dkwX8_advanceToken_6 ++ dktX8_advanceToken_7
def dkwX8_advanceToken_5 : List UInt8 := [180, 0, 44, 182, 0, 47, 146, 182, 0, 61, 87, 42, 89, 180, 0, 44, 4, 96, 181, 0, 44, 167, 255, 214]
abbrev dktX8_advanceToken_5 : List UInt8 := dkwX8_advanceToken_5 ++ dktX8_advanceToken_6
def dkwX8_advanceToken_4 : List UInt8 := [77, 42, 42, 180, 0, 44, 182, 0, 47, 16, 97, 16, 122, 184, 0, 54, 153, 0, 30, 44, 42, 42]
abbrev dktX8_advanceToken_4 : List UInt8 := dkwX8_advanceToken_4 ++ dktX8_advanceToken_5
def dkwX8_advanceToken_3 : List UInt8 := [181, 0, 34, 167, 0, 188, 27, 16, 97, 16, 122, 184, 0, 54, 153, 0, 74, 187, 0, 58, 89, 183, 0, 60]
abbrev dktX8_advanceToken_3 : List UInt8 := dkwX8_advanceToken_3 ++ dktX8_advanceToken_4
def dkwX8_advanceToken_2 : List UInt8 := [42, 18, 22, 181, 0, 24, 42, 42, 180, 0, 44, 182, 0, 47, 60, 27, 2, 160, 0, 13, 42, 178, 0, 28]
abbrev dktX8_advanceToken_2 : List UInt8 := dkwX8_advanceToken_2 ++ dktX8_advanceToken_3
def dkwX8_advanceToken_1 : List UInt8 := [160, 0, 16, 42, 89, 180, 0, 44, 4, 96, 181, 0, 44, 167, 255, 220, 42, 42, 180, 0, 44, 181, 0, 51]
abbrev dktX8_advanceToken_1 : List UInt8 := dkwX8_advanceToken_1 ++ dktX8_advanceToken_2
def dkwX8_advanceToken_0 : List UInt8 := [42, 42, 180, 0, 44, 182, 0, 47, 16, 32, 159, 0, 16, 42, 42, 180, 0, 44, 182, 0, 47, 16, 10]
abbrev dktX8_advanceToken_0 : List UInt8 := dkwX8_advanceToken_0 ++ dktX8_advanceToken_1
theorem dksX8_advanceToken_0 : cX8_advanceToken.data.toList.drop 0 = dktX8_advanceToken_0 := by decide +kernel
theorem dksX8_advanceToken_1 : cX8_advanceToken.data.toList.drop 23 = dktX8_advanceToken_1 := dk_seg dksX8_advanceToken_0 23 rfl rfl
theorem dksX8_advanceToken_2 : cX8_advanceToken.data.toList.drop 47 = dktX8_advanceToken_2 := dk_seg dksX8_advanceToken_1 24 rfl rfl
theorem dksX8_advanceToken_3 : cX8_advanceToken.data.toList.drop 71 = dktX8_advanceToken_3 := dk_seg dksX8_advanceToken_2 24 rfl rfl
theorem dksX8_advanceToken_4 : cX8_advanceToken.data.toList.drop 95 = dktX8_advanceToken_4 := dk_seg dksX8_advanceToken_3 24 rfl rfl
theorem dksX8_advanceToken_5 : cX8_advanceToken.data.toList.drop 117 = dktX8_advanceToken_5 := dk_seg dksX8_advanceToken_4 22 rfl rfl
theorem dksX8_advanceToken_6 : cX8_advanceToken.data.toList.drop 141 = dktX8_advanceToken_6 := dk_seg dksX8_advanceToken_5 24 rfl rfl
theorem dksX8_advanceToken_7 : cX8_advanceToken.data.toList.drop 164 = dktX8_advanceToken_7 := dk_seg dksX8_advanceToken_6 23 rfl rfl
theorem dksX8_advanceToken_8 : cX8_advanceToken.data.toList.drop 187 = dktX8_advanceToken_8 := dk_seg dksX8_advanceToken_7 23 rfl rfl
theorem dksX8_advanceToken_9 : cX8_advanceToken.data.toList.drop 209 = dktX8_advanceToken_9 := dk_seg dksX8_advanceToken_8 22 rfl rfl
theorem dksX8_advanceToken_10 : cX8_advanceToken.data.toList.drop 232 = dktX8_advanceToken_10 := dk_seg dksX8_advanceToken_9 23 rfl rfl
theorem dksX8_advanceToken_11 : cX8_advanceToken.data.toList.drop 254 = dktX8_advanceToken_11 := dk_seg dksX8_advanceToken_10 22 rfl rfl
theorem dX8_advanceToken_0 : decode cX8_advanceToken 0 = .ok (.aload_n 0, 1) := dk_42 (dk_at dksX8_advanceToken_0 0 rfl rfl)
theorem dX8_advanceToken_1 : decode cX8_advanceToken 1 = .ok (.aload_n 0, 1) := dk_42 (dk_at dksX8_advanceToken_0 1 rfl rfl)
theorem dX8_advanceToken_2 : decode cX8_advanceToken 2 = .ok (.getfield 44, 3) := dk_180 0 44 (dk_at dksX8_advanceToken_0 2 rfl rfl)
theorem dX8_advanceToken_5 : decode cX8_advanceToken 5 = .ok (.invokevirtual 47, 3) := dk_182 0 47 (dk_at dksX8_advanceToken_0 5 rfl rfl)
theorem dX8_advanceToken_8 : decode cX8_advanceToken 8 = .ok (.bipush 32, 2) := dk_16 32 (dk_at dksX8_advanceToken_0 8 rfl rfl)
theorem dX8_advanceToken_10 : decode cX8_advanceToken 10 = .ok (.if_icmp .eq 16, 3) := dk_159 0 16 (dk_at dksX8_advanceToken_0 10 rfl rfl)
theorem dX8_advanceToken_13 : decode cX8_advanceToken 13 = .ok (.aload_n 0, 1) := dk_42 (dk_at dksX8_advanceToken_0 13 rfl rfl)
theorem dX8_advanceToken_14 : decode cX8_advanceToken 14 = .ok (.aload_n 0, 1) := dk_42 (dk_at dksX8_advanceToken_0 14 rfl rfl)
theorem dX8_advanceToken_15 : decode cX8_advanceToken 15 = .ok (.getfield 44, 3) := dk_180 0 44 (dk_at dksX8_advanceToken_0 15 rfl rfl)
theorem dX8_advanceToken_18 : decode cX8_advanceToken 18 = .ok (.invokevirtual 47, 3) := dk_182 0 47 (dk_at dksX8_advanceToken_0 18 rfl rfl)
theorem dX8_advanceToken_21 : decode cX8_advanceToken 21 = .ok (.bipush 10, 2) := dk_16 10 (dk_at dksX8_advanceToken_0 21 rfl rfl)
theorem dX8_advanceToken_23 : decode cX8_advanceToken 23 = .ok (.if_icmp .ne 16, 3) := dk_160 0 16 (dk_at dksX8_advanceToken_1 0 rfl rfl)
theorem dX8_advanceToken_26 : decode cX8_advanceToken 26 = .ok (.aload_n 0, 1) := dk_42 (dk_at dksX8_advanceToken_1 3 rfl rfl)
theorem dX8_advanceToken_27 : decode cX8_advanceToken 27 = .ok (.dup, 1) := dk_89 (dk_at dksX8_advanceToken_1 4 rfl rfl)
theorem dX8_advanceToken_28 : decode cX8_advanceToken 28 = .ok (.getfield 44, 3) := dk_180 0 44 (dk_at dksX8_advanceToken_1 5 rfl rfl)
theorem dX8_advanceToken_31 : decode cX8_advanceToken 31 = .ok (.iconst 1, 1) := dk_4 (dk_at dksX8_advanceToken_1 8 rfl rfl)
theorem dX8_advanceToken_32 : decode cX8_advanceToken 32 = .ok (.iadd, 1) := dk_96 (dk_at dksX8_advanceToken_1 9 rfl rfl)
theorem dX8_advanceToken_33 : decode cX8_advanceToken 33 = .ok (.putfield 44, 3) := dk_181 0 44 (dk_at dksX8_advanceToken_1 10 rfl rfl)
theorem dX8_advanceToken_36 : decode cX8_advanceToken 36 = .ok (.goto (-36), 3) := dk_167 255 220 (dk_at dksX8_advanceToken_1 13 rfl rfl)
theorem dX8_advanceToken_39 : decode cX8_advanceToken 39 = .ok (.aload_n 0, 1) := dk_42 (dk_at dksX8_advanceToken_1 16 rfl rfl)
theorem dX8_advanceToken_40 : decode cX8_advanceToken 40 = .ok (.aload_n 0, 1) := dk_42 (dk_at dksX8_advanceToken_1 17 rfl rfl)
theorem dX8_advanceToken_41 : decode cX8_advanceToken 41 = .ok (.getfield 44, 3) := dk_180 0 44 (dk_at dksX8_advanceToken_1 18 rfl rfl)
theorem dX8_advanceToken_44 : decode cX8_advanceToken 44 = .ok (.putfield 51, 3) := dk_181 0 51 (dk_at dksX8_advanceToken_1 21 rfl rfl)
theorem dX8_advanceToken_47 : decode cX8_advanceToken 47 = .ok (.aload_n 0, 1) := dk_42 (dk_at dksX8_advanceToken_2 0 rfl rfl)
theorem dX8_advanceToken_48 : decode cX8_advanceToken 48 = .ok (.ldc 22, 2) := dk_18 22 (dk_at dksX8_advanceToken_2 1 rfl rfl)
theorem dX8_advanceToken_50 : decode cX8_advanceToken 50 = .ok (.putfield 24, 3) := dk_181 0 24 (dk_at dksX8_advanceToken_2 3 rfl rfl)
theorem dX8_advanceToken_53 : decode cX8_advanceToken 53 = .ok (.aload_n 0, 1) := dk_42 (dk_at dksX8_advanceToken_2 6 rfl rfl)
theorem dX8_advanceToken_54 : decode cX8_advanceToken 54 = .ok (.aload_n 0, 1) := dk_42 (dk_at dksX8_advanceToken_2 7 rfl rfl)
theorem dX8_advanceToken_55 : decode cX8_advanceToken 55 = .ok (.getfield 44, 3) := dk_180 0 44 (dk_at dksX8_advanceToken_2 8 rfl rfl)
theorem dX8_advanceToken_58 : decode cX8_advanceToken 58 = .ok (.invokevirtual 47, 3) := dk_182 0 47 (dk_at dksX8_advanceToken_2 11 rfl rfl)
theorem dX8_advanceToken_61 : decode cX8_advanceToken 61 = .ok (.istore_n 1, 1) := dk_60 (dk_at dksX8_advanceToken_2 14 rfl rfl)
theorem dX8_advanceToken_62 : decode cX8_advanceToken 62 = .ok (.iload_n 1, 1) := dk_27 (dk_at dksX8_advanceToken_2 15 rfl rfl)
theorem dX8_advanceToken_63 : decode cX8_advanceToken 63 = .ok (.iconst (-1), 1) := dk_2 (dk_at dksX8_advanceToken_2 16 rfl rfl)
theorem dX8_advanceToken_64 : decode cX8_advanceToken 64 = .ok (.if_icmp .ne 13, 3) := dk_160 0 13 (dk_at dksX8_advanceToken_2 17 rfl rfl)
theorem dX8_advanceToken_67 : decode cX8_advanceToken 67 = .ok (.aload_n 0, 1) := dk_42 (dk_at dksX8_advanceToken_2 20 rfl rfl)
theorem dX8_advanceToken_68 : decode cX8_advanceToken 68 = .ok (.getstatic 28, 3) := dk_178 0 28 (dk_at dksX8_advanceToken_2 21 rfl rfl)
theorem dX8_advanceToken_71 : decode cX8_advanceToken 71 = .ok (.putfield 34, 3) := dk_181 0 34 (dk_at dksX8_advanceToken_3 0 rfl rfl)
theorem dX8_advanceToken_74 : decode cX8_advanceToken 74 = .ok (.goto 188, 3) := dk_167 0 188 (dk_at dksX8_advanceToken_3 3 rfl rfl)
theorem dX8_advanceToken_77 : decode cX8_advanceToken 77 = .ok (.iload_n 1, 1) := dk_27 (dk_at dksX8_advanceToken_3 6 rfl rfl)
theorem dX8_advanceToken_78 : decode cX8_advanceToken 78 = .ok (.bipush 97, 2) := dk_16 97 (dk_at dksX8_advanceToken_3 7 rfl rfl)
theorem dX8_advanceToken_80 : decode cX8_advanceToken 80 = .ok (.bipush 122, 2) := dk_16 122 (dk_at dksX8_advanceToken_3 9 rfl rfl)
theorem dX8_advanceToken_82 : decode cX8_advanceToken 82 = .ok (.invokestatic 54, 3) := dk_184 0 54 (dk_at dksX8_advanceToken_3 11 rfl rfl)
theorem dX8_advanceToken_85 : decode cX8_advanceToken 85 = .ok (.ifCond .eq 74, 3) := dk_153 0 74 (dk_at dksX8_advanceToken_3 14 rfl rfl)
theorem dX8_advanceToken_88 : decode cX8_advanceToken 88 = .ok (.new 58, 3) := dk_187 0 58 (dk_at dksX8_advanceToken_3 17 rfl rfl)
theorem dX8_advanceToken_91 : decode cX8_advanceToken 91 = .ok (.dup, 1) := dk_89 (dk_at dksX8_advanceToken_3 20 rfl rfl)
theorem dX8_advanceToken_92 : decode cX8_advanceToken 92 = .ok (.invokespecial 60, 3) := dk_183 0 60 (dk_at dksX8_advanceToken_3 21 rfl rfl)
theorem dX8_advanceToken_95 : decode cX8_advanceToken 95 = .ok (.astore_n 2, 1) := dk_77 (dk_at dksX8_advanceToken_4 0 rfl rfl)
theorem dX8_advanceToken_96 : decode cX8_advanceToken 96 = .ok (.aload_n 0, 1) := dk_42 (dk_at dksX8_advanceToken_4 1 rfl rfl)
theorem dX8_advanceToken_97 : decode cX8_advanceToken 97 = .ok (.aload_n 0, 1) := dk_42 (dk_at dksX8_advanceToken_4 2 rfl rfl)
theorem dX8_advanceToken_98 : decode cX8_advanceToken 98 = .ok (.getfield 44, 3) := dk_180 0 44 (dk_at dksX8_advanceToken_4 3 rfl rfl)
theorem dX8_advanceToken_101 : decode cX8_advanceToken 101 = .ok (.invokevirtual 47, 3) := dk_182 0 47 (dk_at dksX8_advanceToken_4 6 rfl rfl)
theorem dX8_advanceToken_104 : decode cX8_advanceToken 104 = .ok (.bipush 97, 2) := dk_16 97 (dk_at dksX8_advanceToken_4 9 rfl rfl)
theorem dX8_advanceToken_106 : decode cX8_advanceToken 106 = .ok (.bipush 122, 2) := dk_16 122 (dk_at dksX8_advanceToken_4 11 rfl rfl)
theorem dX8_advanceToken_108 : decode cX8_advanceToken 108 = .ok (.invokestatic 54, 3) := dk_184 0 54 (dk_at dksX8_advanceToken_4 13 rfl rfl)
theorem dX8_advanceToken_111 : decode cX8_advanceToken 111 = .ok (.ifCond .eq 30, 3) := dk_153 0 30 (dk_at dksX8_advanceToken_4 16 rfl rfl)
theorem dX8_advanceToken_114 : decode cX8_advanceToken 114 = .ok (.aload_n 2, 1) := dk_44 (dk_at dksX8_advanceToken_4 19 rfl rfl)
theorem dX8_advanceToken_115 : decode cX8_advanceToken 115 = .ok (.aload_n 0, 1) := dk_42 (dk_at dksX8_advanceToken_4 20 rfl rfl)
theorem dX8_advanceToken_116 : decode cX8_advanceToken 116 = .ok (.aload_n 0, 1) := dk_42 (dk_at dksX8_advanceToken_4 21 rfl rfl)
theorem dX8_advanceToken_117 : decode cX8_advanceToken 117 = .ok (.getfield 44, 3) := dk_180 0 44 (dk_at dksX8_advanceToken_5 0 rfl rfl)
theorem dX8_advanceToken_120 : decode cX8_advanceToken 120 = .ok (.invokevirtual 47, 3) := dk_182 0 47 (dk_at dksX8_advanceToken_5 3 rfl rfl)
theorem dX8_advanceToken_123 : decode cX8_advanceToken 123 = .ok (.i2c, 1) := dk_146 (dk_at dksX8_advanceToken_5 6 rfl rfl)
theorem dX8_advanceToken_124 : decode cX8_advanceToken 124 = .ok (.invokevirtual 61, 3) := dk_182 0 61 (dk_at dksX8_advanceToken_5 7 rfl rfl)
theorem dX8_advanceToken_127 : decode cX8_advanceToken 127 = .ok (.pop, 1) := dk_87 (dk_at dksX8_advanceToken_5 10 rfl rfl)
theorem dX8_advanceToken_128 : decode cX8_advanceToken 128 = .ok (.aload_n 0, 1) := dk_42 (dk_at dksX8_advanceToken_5 11 rfl rfl)
theorem dX8_advanceToken_129 : decode cX8_advanceToken 129 = .ok (.dup, 1) := dk_89 (dk_at dksX8_advanceToken_5 12 rfl rfl)
theorem dX8_advanceToken_130 : decode cX8_advanceToken 130 = .ok (.getfield 44, 3) := dk_180 0 44 (dk_at dksX8_advanceToken_5 13 rfl rfl)
theorem dX8_advanceToken_133 : decode cX8_advanceToken 133 = .ok (.iconst 1, 1) := dk_4 (dk_at dksX8_advanceToken_5 16 rfl rfl)
theorem dX8_advanceToken_134 : decode cX8_advanceToken 134 = .ok (.iadd, 1) := dk_96 (dk_at dksX8_advanceToken_5 17 rfl rfl)
theorem dX8_advanceToken_135 : decode cX8_advanceToken 135 = .ok (.putfield 44, 3) := dk_181 0 44 (dk_at dksX8_advanceToken_5 18 rfl rfl)
theorem dX8_advanceToken_138 : decode cX8_advanceToken 138 = .ok (.goto (-42), 3) := dk_167 255 214 (dk_at dksX8_advanceToken_5 21 rfl rfl)
theorem dX8_advanceToken_141 : decode cX8_advanceToken 141 = .ok (.aload_n 0, 1) := dk_42 (dk_at dksX8_advanceToken_6 0 rfl rfl)
theorem dX8_advanceToken_142 : decode cX8_advanceToken 142 = .ok (.aload_n 2, 1) := dk_44 (dk_at dksX8_advanceToken_6 1 rfl rfl)
theorem dX8_advanceToken_143 : decode cX8_advanceToken 143 = .ok (.invokevirtual 65, 3) := dk_182 0 65 (dk_at dksX8_advanceToken_6 2 rfl rfl)
theorem dX8_advanceToken_146 : decode cX8_advanceToken 146 = .ok (.putfield 24, 3) := dk_181 0 24 (dk_at dksX8_advanceToken_6 5 rfl rfl)
theorem dX8_advanceToken_149 : decode cX8_advanceToken 149 = .ok (.aload_n 0, 1) := dk_42 (dk_at dksX8_advanceToken_6 8 rfl rfl)
theorem dX8_advanceToken_150 : decode cX8_advanceToken 150 = .ok (.getstatic 69, 3) := dk_178 0 69 (dk_at dksX8_advanceToken_6 9 rfl rfl)
theorem dX8_advanceToken_153 : decode cX8_advanceToken 153 = .ok (.putfield 34, 3) := dk_181 0 34 (dk_at dksX8_advanceToken_6 12 rfl rfl)
theorem dX8_advanceToken_156 : decode cX8_advanceToken 156 = .ok (.goto 106, 3) := dk_167 0 106 (dk_at dksX8_advanceToken_6 15 rfl rfl)
theorem dX8_advanceToken_159 : decode cX8_advanceToken 159 = .ok (.iload_n 1, 1) := dk_27 (dk_at dksX8_advanceToken_6 18 rfl rfl)
theorem dX8_advanceToken_160 : decode cX8_advanceToken 160 = .ok (.bipush 48, 2) := dk_16 48 (dk_at dksX8_advanceToken_6 19 rfl rfl)
theorem dX8_advanceToken_162 : decode cX8_advanceToken 162 = .ok (.bipush 57, 2) := dk_16 57 (dk_at dksX8_advanceToken_6 21 rfl rfl)
theorem dX8_advanceToken_164 : decode cX8_advanceToken 164 = .ok (.invokestatic 54, 3) := dk_184 0 54 (dk_at dksX8_advanceToken_7 0 rfl rfl)
theorem dX8_advanceToken_167 : decode cX8_advanceToken 167 = .ok (.ifCond .eq 78, 3) := dk_153 0 78 (dk_at dksX8_advanceToken_7 3 rfl rfl)
theorem dX8_advanceToken_170 : decode cX8_advanceToken 170 = .ok (.aload_n 0, 1) := dk_42 (dk_at dksX8_advanceToken_7 6 rfl rfl)
theorem dX8_advanceToken_171 : decode cX8_advanceToken 171 = .ok (.iconst 0, 1) := dk_3 (dk_at dksX8_advanceToken_7 7 rfl rfl)
theorem dX8_advanceToken_172 : decode cX8_advanceToken 172 = .ok (.putfield 72, 3) := dk_181 0 72 (dk_at dksX8_advanceToken_7 8 rfl rfl)
theorem dX8_advanceToken_175 : decode cX8_advanceToken 175 = .ok (.aload_n 0, 1) := dk_42 (dk_at dksX8_advanceToken_7 11 rfl rfl)
theorem dX8_advanceToken_176 : decode cX8_advanceToken 176 = .ok (.aload_n 0, 1) := dk_42 (dk_at dksX8_advanceToken_7 12 rfl rfl)
theorem dX8_advanceToken_177 : decode cX8_advanceToken 177 = .ok (.getfield 44, 3) := dk_180 0 44 (dk_at dksX8_advanceToken_7 13 rfl rfl)
theorem dX8_advanceToken_180 : decode cX8_advanceToken 180 = .ok (.invokevirtual 47, 3) := dk_182 0 47 (dk_at dksX8_advanceToken_7 16 rfl rfl)
theorem dX8_advanceToken_183 : decode cX8_advanceToken 183 = .ok (.bipush 48, 2) := dk_16 48 (dk_at dksX8_advanceToken_7 19 rfl rfl)
theorem dX8_advanceToken_185 : decode cX8_advanceToken 185 = .ok (.bipush 57, 2) := dk_16 57 (dk_at dksX8_advanceToken_7 21 rfl rfl)
theorem dX8_advanceToken_187 : decode cX8_advanceToken 187 = .ok (.invokestatic 54, 3) := dk_184 0 54 (dk_at dksX8_advanceToken_8 0 rfl rfl)
theorem dX8_advanceToken_190 : decode cX8_advanceToken 190 = .ok (.ifCond .eq 45, 3) := dk_153 0 45 (dk_at dksX8_advanceToken_8 3 rfl rfl)
theorem dX8_advanceToken_193 : decode cX8_advanceToken 193 = .ok (.aload_n 0, 1) := dk_42 (dk_at dksX8_advanceToken_8 6 rfl rfl)
theorem dX8_advanceToken_194 : decode cX8_advanceToken 194 = .ok (.sipush 1000, 3) := dk_17 3 232 (dk_at dksX8_advanceToken_8 7 rfl rfl)
theorem dX8_advanceToken_197 : decode cX8_advanceToken 197 = .ok (.bipush 10, 2) := dk_16 10 (dk_at dksX8_advanceToken_8 10 rfl rfl)
theorem dX8_advanceToken_199 : decode cX8_advanceToken 199 = .ok (.aload_n 0, 1) := dk_42 (dk_at dksX8_advanceToken_8 12 rfl rfl)
theorem dX8_advanceToken_200 : decode cX8_advanceToken 200 = .ok (.getfield 72, 3) := dk_180 0 72 (dk_at dksX8_advanceToken_8 13 rfl rfl)
theorem dX8_advanceToken_203 : decode cX8_advanceToken 203 = .ok (.imul, 1) := dk_104 (dk_at dksX8_advanceToken_8 16 rfl rfl)
theorem dX8_advanceToken_204 : decode cX8_advanceToken 204 = .ok (.aload_n 0, 1) := dk_42 (dk_at dksX8_advanceToken_8 17 rfl rfl)
theorem dX8_advanceToken_205 : decode cX8_advanceToken 205 = .ok (.aload_n 0, 1) := dk_42 (dk_at dksX8_advanceToken_8 18 rfl rfl)
theorem dX8_advanceToken_206 : decode cX8_advanceToken 206 = .ok (.getfield 44, 3) := dk_180 0 44 (dk_at dksX8_advanceToken_8 19 rfl rfl)
theorem dX8_advanceToken_209 : decode cX8_advanceToken 209 = .ok (.invokevirtual 47, 3) := dk_182 0 47 (dk_at dksX8_advanceToken_9 0 rfl rfl)
theorem dX8_advanceToken_212 : decode cX8_advanceToken 212 = .ok (.iadd, 1) := dk_96 (dk_at dksX8_advanceToken_9 3 rfl rfl)
theorem dX8_advanceToken_213 : decode cX8_advanceToken 213 = .ok (.bipush 48, 2) := dk_16 48 (dk_at dksX8_advanceToken_9 4 rfl rfl)
theorem dX8_advanceToken_215 : decode cX8_advanceToken 215 = .ok (.isub, 1) := dk_100 (dk_at dksX8_advanceToken_9 6 rfl rfl)
theorem dX8_advanceToken_216 : decode cX8_advanceToken 216 = .ok (.invokestatic 75, 3) := dk_184 0 75 (dk_at dksX8_advanceToken_9 7 rfl rfl)
theorem dX8_advanceToken_219 : decode cX8_advanceToken 219 = .ok (.putfield 72, 3) := dk_181 0 72 (dk_at dksX8_advanceToken_9 10 rfl rfl)
theorem dX8_advanceToken_222 : decode cX8_advanceToken 222 = .ok (.aload_n 0, 1) := dk_42 (dk_at dksX8_advanceToken_9 13 rfl rfl)
theorem dX8_advanceToken_223 : decode cX8_advanceToken 223 = .ok (.dup, 1) := dk_89 (dk_at dksX8_advanceToken_9 14 rfl rfl)
theorem dX8_advanceToken_224 : decode cX8_advanceToken 224 = .ok (.getfield 44, 3) := dk_180 0 44 (dk_at dksX8_advanceToken_9 15 rfl rfl)
theorem dX8_advanceToken_227 : decode cX8_advanceToken 227 = .ok (.iconst 1, 1) := dk_4 (dk_at dksX8_advanceToken_9 18 rfl rfl)
theorem dX8_advanceToken_228 : decode cX8_advanceToken 228 = .ok (.iadd, 1) := dk_96 (dk_at dksX8_advanceToken_9 19 rfl rfl)
theorem dX8_advanceToken_229 : decode cX8_advanceToken 229 = .ok (.putfield 44, 3) := dk_181 0 44 (dk_at dksX8_advanceToken_9 20 rfl rfl)
theorem dX8_advanceToken_232 : decode cX8_advanceToken 232 = .ok (.goto (-57), 3) := dk_167 255 199 (dk_at dksX8_advanceToken_10 0 rfl rfl)
theorem dX8_advanceToken_235 : decode cX8_advanceToken 235 = .ok (.aload_n 0, 1) := dk_42 (dk_at dksX8_advanceToken_10 3 rfl rfl)
theorem dX8_advanceToken_236 : decode cX8_advanceToken 236 = .ok (.getstatic 81, 3) := dk_178 0 81 (dk_at dksX8_advanceToken_10 4 rfl rfl)
theorem dX8_advanceToken_239 : decode cX8_advanceToken 239 = .ok (.putfield 34, 3) := dk_181 0 34 (dk_at dksX8_advanceToken_10 7 rfl rfl)
theorem dX8_advanceToken_242 : decode cX8_advanceToken 242 = .ok (.goto 20, 3) := dk_167 0 20 (dk_at dksX8_advanceToken_10 10 rfl rfl)
theorem dX8_advanceToken_245 : decode cX8_advanceToken 245 = .ok (.aload_n 0, 1) := dk_42 (dk_at dksX8_advanceToken_10 13 rfl rfl)
theorem dX8_advanceToken_246 : decode cX8_advanceToken 246 = .ok (.getstatic 84, 3) := dk_178 0 84 (dk_at dksX8_advanceToken_10 14 rfl rfl)
theorem dX8_advanceToken_249 : decode cX8_advanceToken 249 = .ok (.putfield 34, 3) := dk_181 0 34 (dk_at dksX8_advanceToken_10 17 rfl rfl)
theorem dX8_advanceToken_252 : decode cX8_advanceToken 252 = .ok (.aload_n 0, 1) := dk_42 (dk_at dksX8_advanceToken_10 20 rfl rfl)
theorem dX8_advanceToken_253 : decode cX8_advanceToken 253 = .ok (.dup, 1) := dk_89 (dk_at dksX8_advanceToken_10 21 rfl rfl)
theorem dX8_advanceToken_254 : decode cX8_advanceToken 254 = .ok (.getfield 44, 3) := dk_180 0 44 (dk_at dksX8_advanceToken_11 0 rfl rfl)
theorem dX8_advanceToken_257 : decode cX8_advanceToken 257 = .ok (.iconst 1, 1) := dk_4 (dk_at dksX8_advanceToken_11 3 rfl rfl)
theorem dX8_advanceToken_258 : decode cX8_advanceToken 258 = .ok (.iadd, 1) := dk_96 (dk_at dksX8_advanceToken_11 4 rfl rfl)
theorem dX8_advanceToken_259 : decode cX8_advanceToken 259 = .ok (.putfield 44, 3) := dk_181 0 44 (dk_at dksX8_advanceToken_11 5 rfl rfl)
theorem dX8_advanceToken_262 : decode cX8_advanceToken 262 = .ok (.return_, 1) := dk_177 (dk_at dksX8_advanceToken_11 8 rfl rfl)
abbrev iX8_advanceToken : xM := (yX8_advanceToken, cX8_advanceToken, 3, none, [])
theorem mX8_advanceToken : xOkM iX8_advanceToken := ⟨by decide +kernel, by decide, q2019, q176⟩
abbrev cX8_byteAt : ByteArray := prog_8_method_2_code
def yX8_byteAt : MethodName := ⟨RX8, "byteAt", "(I)I"⟩
def dkwX8_byteAt_1 : List UInt8 := [2, 172]
abbrev dktX8_byteAt_1 : List UInt8 := dkwX8_byteAt_1 ++ []
def dkwX8_byteAt_0 : List UInt8 := [27, 42, 180, 0, 19, 162, 0, 19, 42, 180, 0, 3, 180, 0, 40, 27, 51, 17, 0, 255, 126, 167, 0, 4]
abbrev dktX8_byteAt_0 : List UInt8 := dkwX8_byteAt_0 ++ dktX8_byteAt_1
theorem dksX8_byteAt_0 : cX8_byteAt.data.toList.drop 0 = dktX8_byteAt_0 := by decide +kernel
theorem dksX8_byteAt_1 : cX8_byteAt.data.toList.drop 24 = dktX8_byteAt_1 := dk_seg dksX8_byteAt_0 24 rfl rfl
theorem dX8_byteAt_0 : decode cX8_byteAt 0 = .ok (.iload_n 1, 1) := dk_27 (dk_at dksX8_byteAt_0 0 rfl rfl)
theorem dX8_byteAt_1 : decode cX8_byteAt 1 = .ok (.aload_n 0, 1) := dk_42 (dk_at dksX8_byteAt_0 1 rfl rfl)
theorem dX8_byteAt_2 : decode cX8_byteAt 2 = .ok (.getfield 19, 3) := dk_180 0 19 (dk_at dksX8_byteAt_0 2 rfl rfl)
theorem dX8_byteAt_5 : decode cX8_byteAt 5 = .ok (.if_icmp .ge 19, 3) := dk_162 0 19 (dk_at dksX8_byteAt_0 5 rfl rfl)
theorem dX8_byteAt_8 : decode cX8_byteAt 8 = .ok (.aload_n 0, 1) := dk_42 (dk_at dksX8_byteAt_0 8 rfl rfl)
theorem dX8_byteAt_9 : decode cX8_byteAt 9 = .ok (.getfield 3, 3) := dk_180 0 3 (dk_at dksX8_byteAt_0 9 rfl rfl)
theorem dX8_byteAt_12 : decode cX8_byteAt 12 = .ok (.getfield 40, 3) := dk_180 0 40 (dk_at dksX8_byteAt_0 12 rfl rfl)
theorem dX8_byteAt_15 : decode cX8_byteAt 15 = .ok (.iload_n 1, 1) := dk_27 (dk_at dksX8_byteAt_0 15 rfl rfl)
theorem dX8_byteAt_16 : decode cX8_byteAt 16 = .ok (.baload, 1) := dk_51 (dk_at dksX8_byteAt_0 16 rfl rfl)
theorem dX8_byteAt_17 : decode cX8_byteAt 17 = .ok (.sipush 255, 3) := dk_17 0 255 (dk_at dksX8_byteAt_0 17 rfl rfl)
theorem dX8_byteAt_20 : decode cX8_byteAt 20 = .ok (.iand, 1) := dk_126 (dk_at dksX8_byteAt_0 20 rfl rfl)
theorem dX8_byteAt_21 : decode cX8_byteAt 21 = .ok (.goto 4, 3) := dk_167 0 4 (dk_at dksX8_byteAt_0 21 rfl rfl)
theorem dX8_byteAt_24 : decode cX8_byteAt 24 = .ok (.iconst (-1), 1) := dk_2 (dk_at dksX8_byteAt_1 0 rfl rfl)
theorem dX8_byteAt_25 : decode cX8_byteAt 25 = .ok (.ireturn, 1) := dk_172 (dk_at dksX8_byteAt_1 1 rfl rfl)
abbrev iX8_byteAt : xM := (yX8_byteAt, cX8_byteAt, 2, (some .int), [])
theorem mX8_byteAt : xOkM iX8_byteAt := ⟨by decide +kernel, by decide, q2023, q176⟩
abbrev cX8_setup : ByteArray := prog_8_method_14_code
def yX8_setup : MethodName := ⟨RX8, "setup", "()LFiddleRow$Hall;"⟩
def dkwX8_setup_4 : List UInt8 := [25, 4, 182, 0, 141, 42, 180, 0, 34, 178, 0, 28, 166, 255, 243, 25, 4, 176]
abbrev dktX8_setup_4 : List UInt8 := dkwX8_setup_4 ++ []
def dkwX8_setup_3 : List UInt8 := [21, 5, 42, 3, 16, 9, 182, 0, 109, 79, 132, 5, 1, 167, 255, 232, 42, 16, 59, 182, 0, 137, 42]
abbrev dktX8_setup_3 : List UInt8 := dkwX8_setup_3 ++ dktX8_setup_4
def dkwX8_setup_2 : List UInt8 := [16, 99, 182, 0, 109, 183, 0, 130, 58, 4, 3, 54, 5, 21, 5, 7, 162, 0, 24, 25, 4, 180, 0, 133]
abbrev dktX8_setup_2 : List UInt8 := dkwX8_setup_2 ++ dktX8_setup_3
def dkwX8_setup_1 : List UInt8 := [3, 16, 40, 182, 0, 109, 61, 42, 3, 16, 99, 182, 0, 109, 62, 187, 0, 128, 89, 27, 28, 29, 42, 3]
abbrev dktX8_setup_1 : List UInt8 := dkwX8_setup_1 ++ dktX8_setup_2
def dkwX8_setup_0 : List UInt8 := [42, 42, 18, 122, 182, 0, 124, 4, 182, 0, 102, 42, 182, 0, 37, 42, 3, 16, 40, 182, 0, 109, 60, 42]
abbrev dktX8_setup_0 : List UInt8 := dkwX8_setup_0 ++ dktX8_setup_1
theorem dksX8_setup_0 : cX8_setup.data.toList.drop 0 = dktX8_setup_0 := by decide +kernel
theorem dksX8_setup_1 : cX8_setup.data.toList.drop 24 = dktX8_setup_1 := dk_seg dksX8_setup_0 24 rfl rfl
theorem dksX8_setup_2 : cX8_setup.data.toList.drop 48 = dktX8_setup_2 := dk_seg dksX8_setup_1 24 rfl rfl
theorem dksX8_setup_3 : cX8_setup.data.toList.drop 72 = dktX8_setup_3 := dk_seg dksX8_setup_2 24 rfl rfl
theorem dksX8_setup_4 : cX8_setup.data.toList.drop 95 = dktX8_setup_4 := dk_seg dksX8_setup_3 23 rfl rfl
theorem dX8_setup_0 : decode cX8_setup 0 = .ok (.aload_n 0, 1) := dk_42 (dk_at dksX8_setup_0 0 rfl rfl)
theorem dX8_setup_1 : decode cX8_setup 1 = .ok (.aload_n 0, 1) := dk_42 (dk_at dksX8_setup_0 1 rfl rfl)
theorem dX8_setup_2 : decode cX8_setup 2 = .ok (.ldc 122, 2) := dk_18 122 (dk_at dksX8_setup_0 2 rfl rfl)
theorem dX8_setup_4 : decode cX8_setup 4 = .ok (.invokevirtual 124, 3) := dk_182 0 124 (dk_at dksX8_setup_0 4 rfl rfl)
theorem dX8_setup_7 : decode cX8_setup 7 = .ok (.iconst 1, 1) := dk_4 (dk_at dksX8_setup_0 7 rfl rfl)
theorem dX8_setup_8 : decode cX8_setup 8 = .ok (.invokevirtual 102, 3) := dk_182 0 102 (dk_at dksX8_setup_0 8 rfl rfl)
theorem dX8_setup_11 : decode cX8_setup 11 = .ok (.aload_n 0, 1) := dk_42 (dk_at dksX8_setup_0 11 rfl rfl)
theorem dX8_setup_12 : decode cX8_setup 12 = .ok (.invokevirtual 37, 3) := dk_182 0 37 (dk_at dksX8_setup_0 12 rfl rfl)
theorem dX8_setup_15 : decode cX8_setup 15 = .ok (.aload_n 0, 1) := dk_42 (dk_at dksX8_setup_0 15 rfl rfl)
theorem dX8_setup_16 : decode cX8_setup 16 = .ok (.iconst 0, 1) := dk_3 (dk_at dksX8_setup_0 16 rfl rfl)
theorem dX8_setup_17 : decode cX8_setup 17 = .ok (.bipush 40, 2) := dk_16 40 (dk_at dksX8_setup_0 17 rfl rfl)
theorem dX8_setup_19 : decode cX8_setup 19 = .ok (.invokevirtual 109, 3) := dk_182 0 109 (dk_at dksX8_setup_0 19 rfl rfl)
theorem dX8_setup_22 : decode cX8_setup 22 = .ok (.istore_n 1, 1) := dk_60 (dk_at dksX8_setup_0 22 rfl rfl)
theorem dX8_setup_23 : decode cX8_setup 23 = .ok (.aload_n 0, 1) := dk_42 (dk_at dksX8_setup_0 23 rfl rfl)
theorem dX8_setup_24 : decode cX8_setup 24 = .ok (.iconst 0, 1) := dk_3 (dk_at dksX8_setup_1 0 rfl rfl)
theorem dX8_setup_25 : decode cX8_setup 25 = .ok (.bipush 40, 2) := dk_16 40 (dk_at dksX8_setup_1 1 rfl rfl)
theorem dX8_setup_27 : decode cX8_setup 27 = .ok (.invokevirtual 109, 3) := dk_182 0 109 (dk_at dksX8_setup_1 3 rfl rfl)
theorem dX8_setup_30 : decode cX8_setup 30 = .ok (.istore_n 2, 1) := dk_61 (dk_at dksX8_setup_1 6 rfl rfl)
theorem dX8_setup_31 : decode cX8_setup 31 = .ok (.aload_n 0, 1) := dk_42 (dk_at dksX8_setup_1 7 rfl rfl)
theorem dX8_setup_32 : decode cX8_setup 32 = .ok (.iconst 0, 1) := dk_3 (dk_at dksX8_setup_1 8 rfl rfl)
theorem dX8_setup_33 : decode cX8_setup 33 = .ok (.bipush 99, 2) := dk_16 99 (dk_at dksX8_setup_1 9 rfl rfl)
theorem dX8_setup_35 : decode cX8_setup 35 = .ok (.invokevirtual 109, 3) := dk_182 0 109 (dk_at dksX8_setup_1 11 rfl rfl)
theorem dX8_setup_38 : decode cX8_setup 38 = .ok (.istore_n 3, 1) := dk_62 (dk_at dksX8_setup_1 14 rfl rfl)
theorem dX8_setup_39 : decode cX8_setup 39 = .ok (.new 128, 3) := dk_187 0 128 (dk_at dksX8_setup_1 15 rfl rfl)
theorem dX8_setup_42 : decode cX8_setup 42 = .ok (.dup, 1) := dk_89 (dk_at dksX8_setup_1 18 rfl rfl)
theorem dX8_setup_43 : decode cX8_setup 43 = .ok (.iload_n 1, 1) := dk_27 (dk_at dksX8_setup_1 19 rfl rfl)
theorem dX8_setup_44 : decode cX8_setup 44 = .ok (.iload_n 2, 1) := dk_28 (dk_at dksX8_setup_1 20 rfl rfl)
theorem dX8_setup_45 : decode cX8_setup 45 = .ok (.iload_n 3, 1) := dk_29 (dk_at dksX8_setup_1 21 rfl rfl)
theorem dX8_setup_46 : decode cX8_setup 46 = .ok (.aload_n 0, 1) := dk_42 (dk_at dksX8_setup_1 22 rfl rfl)
theorem dX8_setup_47 : decode cX8_setup 47 = .ok (.iconst 0, 1) := dk_3 (dk_at dksX8_setup_1 23 rfl rfl)
theorem dX8_setup_48 : decode cX8_setup 48 = .ok (.bipush 99, 2) := dk_16 99 (dk_at dksX8_setup_2 0 rfl rfl)
theorem dX8_setup_50 : decode cX8_setup 50 = .ok (.invokevirtual 109, 3) := dk_182 0 109 (dk_at dksX8_setup_2 2 rfl rfl)
theorem dX8_setup_53 : decode cX8_setup 53 = .ok (.invokespecial 130, 3) := dk_183 0 130 (dk_at dksX8_setup_2 5 rfl rfl)
theorem dX8_setup_56 : decode cX8_setup 56 = .ok (.astore 4, 2) := dk_58 4 (dk_at dksX8_setup_2 8 rfl rfl)
theorem dX8_setup_58 : decode cX8_setup 58 = .ok (.iconst 0, 1) := dk_3 (dk_at dksX8_setup_2 10 rfl rfl)
theorem dX8_setup_59 : decode cX8_setup 59 = .ok (.istore 5, 2) := dk_54 5 (dk_at dksX8_setup_2 11 rfl rfl)
theorem dX8_setup_61 : decode cX8_setup 61 = .ok (.iload 5, 2) := dk_21 5 (dk_at dksX8_setup_2 13 rfl rfl)
theorem dX8_setup_63 : decode cX8_setup 63 = .ok (.iconst 4, 1) := dk_7 (dk_at dksX8_setup_2 15 rfl rfl)
theorem dX8_setup_64 : decode cX8_setup 64 = .ok (.if_icmp .ge 24, 3) := dk_162 0 24 (dk_at dksX8_setup_2 16 rfl rfl)
theorem dX8_setup_67 : decode cX8_setup 67 = .ok (.aload 4, 2) := dk_25 4 (dk_at dksX8_setup_2 19 rfl rfl)
theorem dX8_setup_69 : decode cX8_setup 69 = .ok (.getfield 133, 3) := dk_180 0 133 (dk_at dksX8_setup_2 21 rfl rfl)
theorem dX8_setup_72 : decode cX8_setup 72 = .ok (.iload 5, 2) := dk_21 5 (dk_at dksX8_setup_3 0 rfl rfl)
theorem dX8_setup_74 : decode cX8_setup 74 = .ok (.aload_n 0, 1) := dk_42 (dk_at dksX8_setup_3 2 rfl rfl)
theorem dX8_setup_75 : decode cX8_setup 75 = .ok (.iconst 0, 1) := dk_3 (dk_at dksX8_setup_3 3 rfl rfl)
theorem dX8_setup_76 : decode cX8_setup 76 = .ok (.bipush 9, 2) := dk_16 9 (dk_at dksX8_setup_3 4 rfl rfl)
theorem dX8_setup_78 : decode cX8_setup 78 = .ok (.invokevirtual 109, 3) := dk_182 0 109 (dk_at dksX8_setup_3 6 rfl rfl)
theorem dX8_setup_81 : decode cX8_setup 81 = .ok (.iastore, 1) := dk_79 (dk_at dksX8_setup_3 9 rfl rfl)
theorem dX8_setup_82 : decode cX8_setup 82 = .ok (.iinc 5 1, 3) := dk_132 5 1 (dk_at dksX8_setup_3 10 rfl rfl)
theorem dX8_setup_85 : decode cX8_setup 85 = .ok (.goto (-24), 3) := dk_167 255 232 (dk_at dksX8_setup_3 13 rfl rfl)
theorem dX8_setup_88 : decode cX8_setup 88 = .ok (.aload_n 0, 1) := dk_42 (dk_at dksX8_setup_3 16 rfl rfl)
theorem dX8_setup_89 : decode cX8_setup 89 = .ok (.bipush 59, 2) := dk_16 59 (dk_at dksX8_setup_3 17 rfl rfl)
theorem dX8_setup_91 : decode cX8_setup 91 = .ok (.invokevirtual 137, 3) := dk_182 0 137 (dk_at dksX8_setup_3 19 rfl rfl)
theorem dX8_setup_94 : decode cX8_setup 94 = .ok (.aload_n 0, 1) := dk_42 (dk_at dksX8_setup_3 22 rfl rfl)
theorem dX8_setup_95 : decode cX8_setup 95 = .ok (.aload 4, 2) := dk_25 4 (dk_at dksX8_setup_4 0 rfl rfl)
theorem dX8_setup_97 : decode cX8_setup 97 = .ok (.invokevirtual 141, 3) := dk_182 0 141 (dk_at dksX8_setup_4 2 rfl rfl)
theorem dX8_setup_100 : decode cX8_setup 100 = .ok (.aload_n 0, 1) := dk_42 (dk_at dksX8_setup_4 5 rfl rfl)
theorem dX8_setup_101 : decode cX8_setup 101 = .ok (.getfield 34, 3) := dk_180 0 34 (dk_at dksX8_setup_4 6 rfl rfl)
theorem dX8_setup_104 : decode cX8_setup 104 = .ok (.getstatic 28, 3) := dk_178 0 28 (dk_at dksX8_setup_4 9 rfl rfl)
theorem dX8_setup_107 : decode cX8_setup 107 = .ok (.if_acmp .ne (-13), 3) := dk_166 255 243 (dk_at dksX8_setup_4 12 rfl rfl)
theorem dX8_setup_110 : decode cX8_setup 110 = .ok (.aload 4, 2) := dk_25 4 (dk_at dksX8_setup_4 15 rfl rfl)
theorem dX8_setup_112 : decode cX8_setup 112 = .ok (.areturn, 1) := dk_176 (dk_at dksX8_setup_4 17 rfl rfl)
abbrev iX8_setup : xM := (yX8_setup, cX8_setup, 6, (some (.object "FiddleRow$Hall")), [])
theorem mX8_setup : xOkM iX8_setup := ⟨by decide +kernel, by decide, q2066, q176⟩
abbrev cX8_isWord : ByteArray := prog_8_method_6_code
def yX8_isWord : MethodName := ⟨RX8, "isWord", "(Ljava/lang/String;)Z"⟩
def dkwX8_isWord_1 : List UInt8 := [167, 0, 4, 3, 172]
abbrev dktX8_isWord_1 : List UInt8 := dkwX8_isWord_1 ++ []
def dkwX8_isWord_0 : List UInt8 := [42, 180, 0, 34, 178, 0, 69, 166, 0, 18, 42, 180, 0, 24, 43, 182, 0, 92, 153, 0, 7, 4]
abbrev dktX8_isWord_0 : List UInt8 := dkwX8_isWord_0 ++ dktX8_isWord_1
theorem dksX8_isWord_0 : cX8_isWord.data.toList.drop 0 = dktX8_isWord_0 := by decide +kernel
theorem dksX8_isWord_1 : cX8_isWord.data.toList.drop 22 = dktX8_isWord_1 := dk_seg dksX8_isWord_0 22 rfl rfl
theorem dX8_isWord_0 : decode cX8_isWord 0 = .ok (.aload_n 0, 1) := dk_42 (dk_at dksX8_isWord_0 0 rfl rfl)
theorem dX8_isWord_1 : decode cX8_isWord 1 = .ok (.getfield 34, 3) := dk_180 0 34 (dk_at dksX8_isWord_0 1 rfl rfl)
theorem dX8_isWord_4 : decode cX8_isWord 4 = .ok (.getstatic 69, 3) := dk_178 0 69 (dk_at dksX8_isWord_0 4 rfl rfl)
theorem dX8_isWord_7 : decode cX8_isWord 7 = .ok (.if_acmp .ne 18, 3) := dk_166 0 18 (dk_at dksX8_isWord_0 7 rfl rfl)
theorem dX8_isWord_10 : decode cX8_isWord 10 = .ok (.aload_n 0, 1) := dk_42 (dk_at dksX8_isWord_0 10 rfl rfl)
theorem dX8_isWord_11 : decode cX8_isWord 11 = .ok (.getfield 24, 3) := dk_180 0 24 (dk_at dksX8_isWord_0 11 rfl rfl)
theorem dX8_isWord_14 : decode cX8_isWord 14 = .ok (.aload_n 1, 1) := dk_43 (dk_at dksX8_isWord_0 14 rfl rfl)
theorem dX8_isWord_15 : decode cX8_isWord 15 = .ok (.invokevirtual 92, 3) := dk_182 0 92 (dk_at dksX8_isWord_0 15 rfl rfl)
theorem dX8_isWord_18 : decode cX8_isWord 18 = .ok (.ifCond .eq 7, 3) := dk_153 0 7 (dk_at dksX8_isWord_0 18 rfl rfl)
theorem dX8_isWord_21 : decode cX8_isWord 21 = .ok (.iconst 1, 1) := dk_4 (dk_at dksX8_isWord_0 21 rfl rfl)
theorem dX8_isWord_22 : decode cX8_isWord 22 = .ok (.goto 4, 3) := dk_167 0 4 (dk_at dksX8_isWord_1 0 rfl rfl)
theorem dX8_isWord_25 : decode cX8_isWord 25 = .ok (.iconst 0, 1) := dk_3 (dk_at dksX8_isWord_1 3 rfl rfl)
theorem dX8_isWord_26 : decode cX8_isWord 26 = .ok (.ireturn, 1) := dk_172 (dk_at dksX8_isWord_1 4 rfl rfl)
abbrev iX8_isWord : xM := (yX8_isWord, cX8_isWord, 2, (some .boolean), [])
theorem mX8_isWord : xOkM iX8_isWord := ⟨by decide +kernel, by decide, q2071, q176⟩
abbrev cX8_require : ByteArray := prog_8_method_4_code
def yX8_require : MethodName := ⟨RX8, "require", "(ZI)V"⟩
def dkwX8_require_0 : List UInt8 := [27, 154, 0, 16, 187, 0, 87, 89, 28, 42, 180, 0, 51, 183, 0, 89, 191, 177]
abbrev dktX8_require_0 : List UInt8 := dkwX8_require_0 ++ []
theorem dksX8_require_0 : cX8_require.data.toList.drop 0 = dktX8_require_0 := by decide +kernel
theorem dX8_require_0 : decode cX8_require 0 = .ok (.iload_n 1, 1) := dk_27 (dk_at dksX8_require_0 0 rfl rfl)
theorem dX8_require_1 : decode cX8_require 1 = .ok (.ifCond .ne 16, 3) := dk_154 0 16 (dk_at dksX8_require_0 1 rfl rfl)
theorem dX8_require_4 : decode cX8_require 4 = .ok (.new 87, 3) := dk_187 0 87 (dk_at dksX8_require_0 4 rfl rfl)
theorem dX8_require_7 : decode cX8_require 7 = .ok (.dup, 1) := dk_89 (dk_at dksX8_require_0 7 rfl rfl)
theorem dX8_require_8 : decode cX8_require 8 = .ok (.iload_n 2, 1) := dk_28 (dk_at dksX8_require_0 8 rfl rfl)
theorem dX8_require_9 : decode cX8_require 9 = .ok (.aload_n 0, 1) := dk_42 (dk_at dksX8_require_0 9 rfl rfl)
theorem dX8_require_10 : decode cX8_require 10 = .ok (.getfield 51, 3) := dk_180 0 51 (dk_at dksX8_require_0 10 rfl rfl)
theorem dX8_require_13 : decode cX8_require 13 = .ok (.invokespecial 89, 3) := dk_183 0 89 (dk_at dksX8_require_0 13 rfl rfl)
theorem dX8_require_16 : decode cX8_require 16 = .ok (.athrow, 1) := dk_191 (dk_at dksX8_require_0 16 rfl rfl)
theorem dX8_require_17 : decode cX8_require 17 = .ok (.return_, 1) := dk_177 (dk_at dksX8_require_0 17 rfl rfl)
abbrev iX8_require : xM := (yX8_require, cX8_require, 3, none, [])
theorem mX8_require : xOkM iX8_require := ⟨by decide +kernel, by decide, q2076, q176⟩
abbrev cX8_number : ByteArray := prog_8_method_9_code
def yX8_number : MethodName := ⟨RX8, "number", "(II)I"⟩
def dkwX8_number_1 : List UInt8 := [180, 0, 72, 27, 28, 184, 0, 54, 5, 182, 0, 102, 42, 180, 0, 72, 62, 42, 182, 0, 37, 29, 172]
abbrev dktX8_number_1 : List UInt8 := dkwX8_number_1 ++ []
def dkwX8_number_0 : List UInt8 := [42, 42, 180, 0, 34, 178, 0, 81, 166, 0, 7, 4, 167, 0, 4, 3, 4, 182, 0, 102, 42, 42]
abbrev dktX8_number_0 : List UInt8 := dkwX8_number_0 ++ dktX8_number_1
theorem dksX8_number_0 : cX8_number.data.toList.drop 0 = dktX8_number_0 := by decide +kernel
theorem dksX8_number_1 : cX8_number.data.toList.drop 22 = dktX8_number_1 := dk_seg dksX8_number_0 22 rfl rfl
theorem dX8_number_0 : decode cX8_number 0 = .ok (.aload_n 0, 1) := dk_42 (dk_at dksX8_number_0 0 rfl rfl)
theorem dX8_number_1 : decode cX8_number 1 = .ok (.aload_n 0, 1) := dk_42 (dk_at dksX8_number_0 1 rfl rfl)
theorem dX8_number_2 : decode cX8_number 2 = .ok (.getfield 34, 3) := dk_180 0 34 (dk_at dksX8_number_0 2 rfl rfl)
theorem dX8_number_5 : decode cX8_number 5 = .ok (.getstatic 81, 3) := dk_178 0 81 (dk_at dksX8_number_0 5 rfl rfl)
theorem dX8_number_8 : decode cX8_number 8 = .ok (.if_acmp .ne 7, 3) := dk_166 0 7 (dk_at dksX8_number_0 8 rfl rfl)
theorem dX8_number_11 : decode cX8_number 11 = .ok (.iconst 1, 1) := dk_4 (dk_at dksX8_number_0 11 rfl rfl)
theorem dX8_number_12 : decode cX8_number 12 = .ok (.goto 4, 3) := dk_167 0 4 (dk_at dksX8_number_0 12 rfl rfl)
theorem dX8_number_15 : decode cX8_number 15 = .ok (.iconst 0, 1) := dk_3 (dk_at dksX8_number_0 15 rfl rfl)
theorem dX8_number_16 : decode cX8_number 16 = .ok (.iconst 1, 1) := dk_4 (dk_at dksX8_number_0 16 rfl rfl)
theorem dX8_number_17 : decode cX8_number 17 = .ok (.invokevirtual 102, 3) := dk_182 0 102 (dk_at dksX8_number_0 17 rfl rfl)
theorem dX8_number_20 : decode cX8_number 20 = .ok (.aload_n 0, 1) := dk_42 (dk_at dksX8_number_0 20 rfl rfl)
theorem dX8_number_21 : decode cX8_number 21 = .ok (.aload_n 0, 1) := dk_42 (dk_at dksX8_number_0 21 rfl rfl)
theorem dX8_number_22 : decode cX8_number 22 = .ok (.getfield 72, 3) := dk_180 0 72 (dk_at dksX8_number_1 0 rfl rfl)
theorem dX8_number_25 : decode cX8_number 25 = .ok (.iload_n 1, 1) := dk_27 (dk_at dksX8_number_1 3 rfl rfl)
theorem dX8_number_26 : decode cX8_number 26 = .ok (.iload_n 2, 1) := dk_28 (dk_at dksX8_number_1 4 rfl rfl)
theorem dX8_number_27 : decode cX8_number 27 = .ok (.invokestatic 54, 3) := dk_184 0 54 (dk_at dksX8_number_1 5 rfl rfl)
theorem dX8_number_30 : decode cX8_number 30 = .ok (.iconst 2, 1) := dk_5 (dk_at dksX8_number_1 8 rfl rfl)
theorem dX8_number_31 : decode cX8_number 31 = .ok (.invokevirtual 102, 3) := dk_182 0 102 (dk_at dksX8_number_1 9 rfl rfl)
theorem dX8_number_34 : decode cX8_number 34 = .ok (.aload_n 0, 1) := dk_42 (dk_at dksX8_number_1 12 rfl rfl)
theorem dX8_number_35 : decode cX8_number 35 = .ok (.getfield 72, 3) := dk_180 0 72 (dk_at dksX8_number_1 13 rfl rfl)
theorem dX8_number_38 : decode cX8_number 38 = .ok (.istore_n 3, 1) := dk_62 (dk_at dksX8_number_1 16 rfl rfl)
theorem dX8_number_39 : decode cX8_number 39 = .ok (.aload_n 0, 1) := dk_42 (dk_at dksX8_number_1 17 rfl rfl)
theorem dX8_number_40 : decode cX8_number 40 = .ok (.invokevirtual 37, 3) := dk_182 0 37 (dk_at dksX8_number_1 18 rfl rfl)
theorem dX8_number_43 : decode cX8_number 43 = .ok (.iload_n 3, 1) := dk_29 (dk_at dksX8_number_1 21 rfl rfl)
theorem dX8_number_44 : decode cX8_number 44 = .ok (.ireturn, 1) := dk_172 (dk_at dksX8_number_1 22 rfl rfl)
abbrev iX8_number : xM := (yX8_number, cX8_number, 4, (some .int), [])
theorem mX8_number : xOkM iX8_number := ⟨by decide +kernel, by decide, q2108, q176⟩
abbrev cX8_sign : ByteArray := prog_8_method_8_code
def yX8_sign : MethodName := ⟨RX8, "sign", "(I)V"⟩
def dkwX8_sign_0 : List UInt8 := [42, 42, 27, 182, 0, 98, 4, 182, 0, 102, 42, 182, 0, 37, 177]
abbrev dktX8_sign_0 : List UInt8 := dkwX8_sign_0 ++ []
theorem dksX8_sign_0 : cX8_sign.data.toList.drop 0 = dktX8_sign_0 := by decide +kernel
theorem dX8_sign_0 : decode cX8_sign 0 = .ok (.aload_n 0, 1) := dk_42 (dk_at dksX8_sign_0 0 rfl rfl)
theorem dX8_sign_1 : decode cX8_sign 1 = .ok (.aload_n 0, 1) := dk_42 (dk_at dksX8_sign_0 1 rfl rfl)
theorem dX8_sign_2 : decode cX8_sign 2 = .ok (.iload_n 1, 1) := dk_27 (dk_at dksX8_sign_0 2 rfl rfl)
theorem dX8_sign_3 : decode cX8_sign 3 = .ok (.invokevirtual 98, 3) := dk_182 0 98 (dk_at dksX8_sign_0 3 rfl rfl)
theorem dX8_sign_6 : decode cX8_sign 6 = .ok (.iconst 1, 1) := dk_4 (dk_at dksX8_sign_0 6 rfl rfl)
theorem dX8_sign_7 : decode cX8_sign 7 = .ok (.invokevirtual 102, 3) := dk_182 0 102 (dk_at dksX8_sign_0 7 rfl rfl)
theorem dX8_sign_10 : decode cX8_sign 10 = .ok (.aload_n 0, 1) := dk_42 (dk_at dksX8_sign_0 10 rfl rfl)
theorem dX8_sign_11 : decode cX8_sign 11 = .ok (.invokevirtual 37, 3) := dk_182 0 37 (dk_at dksX8_sign_0 11 rfl rfl)
theorem dX8_sign_14 : decode cX8_sign 14 = .ok (.return_, 1) := dk_177 (dk_at dksX8_sign_0 14 rfl rfl)
abbrev iX8_sign : xM := (yX8_sign, cX8_sign, 2, none, [])
theorem mX8_sign : xOkM iX8_sign := ⟨by decide +kernel, by decide, q2114, q176⟩
abbrev cX8_isSign : ByteArray := prog_8_method_5_code
def yX8_isSign : MethodName := ⟨RX8, "isSign", "(I)Z"⟩
def dkwX8_isSign_1 : List UInt8 := [167, 0, 4, 3, 172]
abbrev dktX8_isSign_1 : List UInt8 := dkwX8_isSign_1 ++ []
def dkwX8_isSign_0 : List UInt8 := [42, 180, 0, 34, 178, 0, 84, 166, 0, 19, 42, 42, 180, 0, 51, 182, 0, 47, 27, 160, 0, 7, 4]
abbrev dktX8_isSign_0 : List UInt8 := dkwX8_isSign_0 ++ dktX8_isSign_1
theorem dksX8_isSign_0 : cX8_isSign.data.toList.drop 0 = dktX8_isSign_0 := by decide +kernel
theorem dksX8_isSign_1 : cX8_isSign.data.toList.drop 23 = dktX8_isSign_1 := dk_seg dksX8_isSign_0 23 rfl rfl
theorem dX8_isSign_0 : decode cX8_isSign 0 = .ok (.aload_n 0, 1) := dk_42 (dk_at dksX8_isSign_0 0 rfl rfl)
theorem dX8_isSign_1 : decode cX8_isSign 1 = .ok (.getfield 34, 3) := dk_180 0 34 (dk_at dksX8_isSign_0 1 rfl rfl)
theorem dX8_isSign_4 : decode cX8_isSign 4 = .ok (.getstatic 84, 3) := dk_178 0 84 (dk_at dksX8_isSign_0 4 rfl rfl)
theorem dX8_isSign_7 : decode cX8_isSign 7 = .ok (.if_acmp .ne 19, 3) := dk_166 0 19 (dk_at dksX8_isSign_0 7 rfl rfl)
theorem dX8_isSign_10 : decode cX8_isSign 10 = .ok (.aload_n 0, 1) := dk_42 (dk_at dksX8_isSign_0 10 rfl rfl)
theorem dX8_isSign_11 : decode cX8_isSign 11 = .ok (.aload_n 0, 1) := dk_42 (dk_at dksX8_isSign_0 11 rfl rfl)
theorem dX8_isSign_12 : decode cX8_isSign 12 = .ok (.getfield 51, 3) := dk_180 0 51 (dk_at dksX8_isSign_0 12 rfl rfl)
theorem dX8_isSign_15 : decode cX8_isSign 15 = .ok (.invokevirtual 47, 3) := dk_182 0 47 (dk_at dksX8_isSign_0 15 rfl rfl)
theorem dX8_isSign_18 : decode cX8_isSign 18 = .ok (.iload_n 1, 1) := dk_27 (dk_at dksX8_isSign_0 18 rfl rfl)
theorem dX8_isSign_19 : decode cX8_isSign 19 = .ok (.if_icmp .ne 7, 3) := dk_160 0 7 (dk_at dksX8_isSign_0 19 rfl rfl)
theorem dX8_isSign_22 : decode cX8_isSign 22 = .ok (.iconst 1, 1) := dk_4 (dk_at dksX8_isSign_0 22 rfl rfl)
theorem dX8_isSign_23 : decode cX8_isSign 23 = .ok (.goto 4, 3) := dk_167 0 4 (dk_at dksX8_isSign_1 0 rfl rfl)
theorem dX8_isSign_26 : decode cX8_isSign 26 = .ok (.iconst 0, 1) := dk_3 (dk_at dksX8_isSign_1 3 rfl rfl)
theorem dX8_isSign_27 : decode cX8_isSign 27 = .ok (.ireturn, 1) := dk_172 (dk_at dksX8_isSign_1 4 rfl rfl)
abbrev iX8_isSign : xM := (yX8_isSign, cX8_isSign, 2, (some .boolean), [])
theorem mX8_isSign : xOkM iX8_isSign := ⟨by decide +kernel, by decide, q2118, q176⟩
abbrev cX8_fiddler : ByteArray := prog_8_method_15_code
def yX8_fiddler : MethodName := ⟨RX8, "fiddler", "(LFiddleRow$Hall;)V"⟩
def dkwX8_fiddler_7 : List UInt8 := [16, 59, 182, 0, 137, 43, 44, 29, 25, 4, 25, 5, 182, 0, 163, 177]
abbrev dktX8_fiddler_7 : List UInt8 := dkwX8_fiddler_7 ++ []
def dkwX8_fiddler_6 : List UInt8 := [153, 0, 13, 42, 3, 16, 9, 182, 0, 109, 167, 0, 5, 16, 9, 79, 132, 7, 1, 167, 255, 225, 42]
abbrev dktX8_fiddler_6 : List UInt8 := dkwX8_fiddler_6 ++ dktX8_fiddler_7
def dkwX8_fiddler_5 : List UInt8 := [21, 6, 153, 0, 7, 42, 182, 0, 37, 3, 54, 7, 21, 7, 7, 162, 0, 31, 25, 5, 21, 7, 21, 6]
abbrev dktX8_fiddler_5 : List UInt8 := dkwX8_fiddler_5 ++ dktX8_fiddler_6
def dkwX8_fiddler_4 : List UInt8 := [182, 0, 158, 79, 132, 5, 1, 167, 255, 234, 7, 188, 10, 58, 5, 42, 18, 161, 182, 0, 124, 54, 6]
abbrev dktX8_fiddler_4 : List UInt8 := dkwX8_fiddler_4 ++ dktX8_fiddler_5
def dkwX8_fiddler_3 : List UInt8 := [62, 7, 188, 10, 58, 4, 3, 54, 5, 21, 5, 7, 162, 0, 22, 25, 4, 21, 5, 42, 3, 17, 0, 200]
abbrev dktX8_fiddler_3 : List UInt8 := dkwX8_fiddler_3 ++ dktX8_fiddler_4
def dkwX8_fiddler_2 : List UInt8 := [2, 160, 0, 7, 4, 167, 0, 4, 3, 6, 182, 0, 102, 42, 182, 0, 37, 42, 3, 16, 8, 182, 0, 109]
abbrev dktX8_fiddler_2 : List UInt8 := dkwX8_fiddler_2 ++ dktX8_fiddler_3
def dkwX8_fiddler_1 : List UInt8 := [4, 167, 0, 4, 3, 7, 182, 0, 102, 42, 182, 0, 37, 42, 182, 0, 115, 77, 42, 43, 44, 182, 0, 155]
abbrev dktX8_fiddler_1 : List UInt8 := dkwX8_fiddler_1 ++ dktX8_fiddler_2
def dkwX8_fiddler_0 : List UInt8 := [42, 42, 18, 145, 182, 0, 124, 4, 182, 0, 102, 42, 43, 180, 0, 146, 182, 0, 150, 16, 10, 162, 0, 7]
abbrev dktX8_fiddler_0 : List UInt8 := dkwX8_fiddler_0 ++ dktX8_fiddler_1
theorem dksX8_fiddler_0 : cX8_fiddler.data.toList.drop 0 = dktX8_fiddler_0 := by decide +kernel
theorem dksX8_fiddler_1 : cX8_fiddler.data.toList.drop 24 = dktX8_fiddler_1 := dk_seg dksX8_fiddler_0 24 rfl rfl
theorem dksX8_fiddler_2 : cX8_fiddler.data.toList.drop 48 = dktX8_fiddler_2 := dk_seg dksX8_fiddler_1 24 rfl rfl
theorem dksX8_fiddler_3 : cX8_fiddler.data.toList.drop 72 = dktX8_fiddler_3 := dk_seg dksX8_fiddler_2 24 rfl rfl
theorem dksX8_fiddler_4 : cX8_fiddler.data.toList.drop 96 = dktX8_fiddler_4 := dk_seg dksX8_fiddler_3 24 rfl rfl
theorem dksX8_fiddler_5 : cX8_fiddler.data.toList.drop 119 = dktX8_fiddler_5 := dk_seg dksX8_fiddler_4 23 rfl rfl
theorem dksX8_fiddler_6 : cX8_fiddler.data.toList.drop 143 = dktX8_fiddler_6 := dk_seg dksX8_fiddler_5 24 rfl rfl
theorem dksX8_fiddler_7 : cX8_fiddler.data.toList.drop 166 = dktX8_fiddler_7 := dk_seg dksX8_fiddler_6 23 rfl rfl
theorem dX8_fiddler_0 : decode cX8_fiddler 0 = .ok (.aload_n 0, 1) := dk_42 (dk_at dksX8_fiddler_0 0 rfl rfl)
theorem dX8_fiddler_1 : decode cX8_fiddler 1 = .ok (.aload_n 0, 1) := dk_42 (dk_at dksX8_fiddler_0 1 rfl rfl)
theorem dX8_fiddler_2 : decode cX8_fiddler 2 = .ok (.ldc 145, 2) := dk_18 145 (dk_at dksX8_fiddler_0 2 rfl rfl)
theorem dX8_fiddler_4 : decode cX8_fiddler 4 = .ok (.invokevirtual 124, 3) := dk_182 0 124 (dk_at dksX8_fiddler_0 4 rfl rfl)
theorem dX8_fiddler_7 : decode cX8_fiddler 7 = .ok (.iconst 1, 1) := dk_4 (dk_at dksX8_fiddler_0 7 rfl rfl)
theorem dX8_fiddler_8 : decode cX8_fiddler 8 = .ok (.invokevirtual 102, 3) := dk_182 0 102 (dk_at dksX8_fiddler_0 8 rfl rfl)
theorem dX8_fiddler_11 : decode cX8_fiddler 11 = .ok (.aload_n 0, 1) := dk_42 (dk_at dksX8_fiddler_0 11 rfl rfl)
theorem dX8_fiddler_12 : decode cX8_fiddler 12 = .ok (.aload_n 1, 1) := dk_43 (dk_at dksX8_fiddler_0 12 rfl rfl)
theorem dX8_fiddler_13 : decode cX8_fiddler 13 = .ok (.getfield 146, 3) := dk_180 0 146 (dk_at dksX8_fiddler_0 13 rfl rfl)
theorem dX8_fiddler_16 : decode cX8_fiddler 16 = .ok (.invokevirtual 150, 3) := dk_182 0 150 (dk_at dksX8_fiddler_0 16 rfl rfl)
theorem dX8_fiddler_19 : decode cX8_fiddler 19 = .ok (.bipush 10, 2) := dk_16 10 (dk_at dksX8_fiddler_0 19 rfl rfl)
theorem dX8_fiddler_21 : decode cX8_fiddler 21 = .ok (.if_icmp .ge 7, 3) := dk_162 0 7 (dk_at dksX8_fiddler_0 21 rfl rfl)
theorem dX8_fiddler_24 : decode cX8_fiddler 24 = .ok (.iconst 1, 1) := dk_4 (dk_at dksX8_fiddler_1 0 rfl rfl)
theorem dX8_fiddler_25 : decode cX8_fiddler 25 = .ok (.goto 4, 3) := dk_167 0 4 (dk_at dksX8_fiddler_1 1 rfl rfl)
theorem dX8_fiddler_28 : decode cX8_fiddler 28 = .ok (.iconst 0, 1) := dk_3 (dk_at dksX8_fiddler_1 4 rfl rfl)
theorem dX8_fiddler_29 : decode cX8_fiddler 29 = .ok (.iconst 4, 1) := dk_7 (dk_at dksX8_fiddler_1 5 rfl rfl)
theorem dX8_fiddler_30 : decode cX8_fiddler 30 = .ok (.invokevirtual 102, 3) := dk_182 0 102 (dk_at dksX8_fiddler_1 6 rfl rfl)
theorem dX8_fiddler_33 : decode cX8_fiddler 33 = .ok (.aload_n 0, 1) := dk_42 (dk_at dksX8_fiddler_1 9 rfl rfl)
theorem dX8_fiddler_34 : decode cX8_fiddler 34 = .ok (.invokevirtual 37, 3) := dk_182 0 37 (dk_at dksX8_fiddler_1 10 rfl rfl)
theorem dX8_fiddler_37 : decode cX8_fiddler 37 = .ok (.aload_n 0, 1) := dk_42 (dk_at dksX8_fiddler_1 13 rfl rfl)
theorem dX8_fiddler_38 : decode cX8_fiddler 38 = .ok (.invokevirtual 115, 3) := dk_182 0 115 (dk_at dksX8_fiddler_1 14 rfl rfl)
theorem dX8_fiddler_41 : decode cX8_fiddler 41 = .ok (.astore_n 2, 1) := dk_77 (dk_at dksX8_fiddler_1 17 rfl rfl)
theorem dX8_fiddler_42 : decode cX8_fiddler 42 = .ok (.aload_n 0, 1) := dk_42 (dk_at dksX8_fiddler_1 18 rfl rfl)
theorem dX8_fiddler_43 : decode cX8_fiddler 43 = .ok (.aload_n 1, 1) := dk_43 (dk_at dksX8_fiddler_1 19 rfl rfl)
theorem dX8_fiddler_44 : decode cX8_fiddler 44 = .ok (.aload_n 2, 1) := dk_44 (dk_at dksX8_fiddler_1 20 rfl rfl)
theorem dX8_fiddler_45 : decode cX8_fiddler 45 = .ok (.invokevirtual 155, 3) := dk_182 0 155 (dk_at dksX8_fiddler_1 21 rfl rfl)
theorem dX8_fiddler_48 : decode cX8_fiddler 48 = .ok (.iconst (-1), 1) := dk_2 (dk_at dksX8_fiddler_2 0 rfl rfl)
theorem dX8_fiddler_49 : decode cX8_fiddler 49 = .ok (.if_icmp .ne 7, 3) := dk_160 0 7 (dk_at dksX8_fiddler_2 1 rfl rfl)
theorem dX8_fiddler_52 : decode cX8_fiddler 52 = .ok (.iconst 1, 1) := dk_4 (dk_at dksX8_fiddler_2 4 rfl rfl)
theorem dX8_fiddler_53 : decode cX8_fiddler 53 = .ok (.goto 4, 3) := dk_167 0 4 (dk_at dksX8_fiddler_2 5 rfl rfl)
theorem dX8_fiddler_56 : decode cX8_fiddler 56 = .ok (.iconst 0, 1) := dk_3 (dk_at dksX8_fiddler_2 8 rfl rfl)
theorem dX8_fiddler_57 : decode cX8_fiddler 57 = .ok (.iconst 3, 1) := dk_6 (dk_at dksX8_fiddler_2 9 rfl rfl)
theorem dX8_fiddler_58 : decode cX8_fiddler 58 = .ok (.invokevirtual 102, 3) := dk_182 0 102 (dk_at dksX8_fiddler_2 10 rfl rfl)
theorem dX8_fiddler_61 : decode cX8_fiddler 61 = .ok (.aload_n 0, 1) := dk_42 (dk_at dksX8_fiddler_2 13 rfl rfl)
theorem dX8_fiddler_62 : decode cX8_fiddler 62 = .ok (.invokevirtual 37, 3) := dk_182 0 37 (dk_at dksX8_fiddler_2 14 rfl rfl)
theorem dX8_fiddler_65 : decode cX8_fiddler 65 = .ok (.aload_n 0, 1) := dk_42 (dk_at dksX8_fiddler_2 17 rfl rfl)
theorem dX8_fiddler_66 : decode cX8_fiddler 66 = .ok (.iconst 0, 1) := dk_3 (dk_at dksX8_fiddler_2 18 rfl rfl)
theorem dX8_fiddler_67 : decode cX8_fiddler 67 = .ok (.bipush 8, 2) := dk_16 8 (dk_at dksX8_fiddler_2 19 rfl rfl)
theorem dX8_fiddler_69 : decode cX8_fiddler 69 = .ok (.invokevirtual 109, 3) := dk_182 0 109 (dk_at dksX8_fiddler_2 21 rfl rfl)
theorem dX8_fiddler_72 : decode cX8_fiddler 72 = .ok (.istore_n 3, 1) := dk_62 (dk_at dksX8_fiddler_3 0 rfl rfl)
theorem dX8_fiddler_73 : decode cX8_fiddler 73 = .ok (.iconst 4, 1) := dk_7 (dk_at dksX8_fiddler_3 1 rfl rfl)
theorem dX8_fiddler_74 : decode cX8_fiddler 74 = .ok (.newarray .int, 2) := dk_188_10 (dk_at dksX8_fiddler_3 2 rfl rfl)
theorem dX8_fiddler_76 : decode cX8_fiddler 76 = .ok (.astore 4, 2) := dk_58 4 (dk_at dksX8_fiddler_3 4 rfl rfl)
theorem dX8_fiddler_78 : decode cX8_fiddler 78 = .ok (.iconst 0, 1) := dk_3 (dk_at dksX8_fiddler_3 6 rfl rfl)
theorem dX8_fiddler_79 : decode cX8_fiddler 79 = .ok (.istore 5, 2) := dk_54 5 (dk_at dksX8_fiddler_3 7 rfl rfl)
theorem dX8_fiddler_81 : decode cX8_fiddler 81 = .ok (.iload 5, 2) := dk_21 5 (dk_at dksX8_fiddler_3 9 rfl rfl)
theorem dX8_fiddler_83 : decode cX8_fiddler 83 = .ok (.iconst 4, 1) := dk_7 (dk_at dksX8_fiddler_3 11 rfl rfl)
theorem dX8_fiddler_84 : decode cX8_fiddler 84 = .ok (.if_icmp .ge 22, 3) := dk_162 0 22 (dk_at dksX8_fiddler_3 12 rfl rfl)
theorem dX8_fiddler_87 : decode cX8_fiddler 87 = .ok (.aload 4, 2) := dk_25 4 (dk_at dksX8_fiddler_3 15 rfl rfl)
theorem dX8_fiddler_89 : decode cX8_fiddler 89 = .ok (.iload 5, 2) := dk_21 5 (dk_at dksX8_fiddler_3 17 rfl rfl)
theorem dX8_fiddler_91 : decode cX8_fiddler 91 = .ok (.aload_n 0, 1) := dk_42 (dk_at dksX8_fiddler_3 19 rfl rfl)
theorem dX8_fiddler_92 : decode cX8_fiddler 92 = .ok (.iconst 0, 1) := dk_3 (dk_at dksX8_fiddler_3 20 rfl rfl)
theorem dX8_fiddler_93 : decode cX8_fiddler 93 = .ok (.sipush 200, 3) := dk_17 0 200 (dk_at dksX8_fiddler_3 21 rfl rfl)
theorem dX8_fiddler_96 : decode cX8_fiddler 96 = .ok (.invokevirtual 158, 3) := dk_182 0 158 (dk_at dksX8_fiddler_4 0 rfl rfl)
theorem dX8_fiddler_99 : decode cX8_fiddler 99 = .ok (.iastore, 1) := dk_79 (dk_at dksX8_fiddler_4 3 rfl rfl)
theorem dX8_fiddler_100 : decode cX8_fiddler 100 = .ok (.iinc 5 1, 3) := dk_132 5 1 (dk_at dksX8_fiddler_4 4 rfl rfl)
theorem dX8_fiddler_103 : decode cX8_fiddler 103 = .ok (.goto (-22), 3) := dk_167 255 234 (dk_at dksX8_fiddler_4 7 rfl rfl)
theorem dX8_fiddler_106 : decode cX8_fiddler 106 = .ok (.iconst 4, 1) := dk_7 (dk_at dksX8_fiddler_4 10 rfl rfl)
theorem dX8_fiddler_107 : decode cX8_fiddler 107 = .ok (.newarray .int, 2) := dk_188_10 (dk_at dksX8_fiddler_4 11 rfl rfl)
theorem dX8_fiddler_109 : decode cX8_fiddler 109 = .ok (.astore 5, 2) := dk_58 5 (dk_at dksX8_fiddler_4 13 rfl rfl)
theorem dX8_fiddler_111 : decode cX8_fiddler 111 = .ok (.aload_n 0, 1) := dk_42 (dk_at dksX8_fiddler_4 15 rfl rfl)
theorem dX8_fiddler_112 : decode cX8_fiddler 112 = .ok (.ldc 161, 2) := dk_18 161 (dk_at dksX8_fiddler_4 16 rfl rfl)
theorem dX8_fiddler_114 : decode cX8_fiddler 114 = .ok (.invokevirtual 124, 3) := dk_182 0 124 (dk_at dksX8_fiddler_4 18 rfl rfl)
theorem dX8_fiddler_117 : decode cX8_fiddler 117 = .ok (.istore 6, 2) := dk_54 6 (dk_at dksX8_fiddler_4 21 rfl rfl)
theorem dX8_fiddler_119 : decode cX8_fiddler 119 = .ok (.iload 6, 2) := dk_21 6 (dk_at dksX8_fiddler_5 0 rfl rfl)
theorem dX8_fiddler_121 : decode cX8_fiddler 121 = .ok (.ifCond .eq 7, 3) := dk_153 0 7 (dk_at dksX8_fiddler_5 2 rfl rfl)
theorem dX8_fiddler_124 : decode cX8_fiddler 124 = .ok (.aload_n 0, 1) := dk_42 (dk_at dksX8_fiddler_5 5 rfl rfl)
theorem dX8_fiddler_125 : decode cX8_fiddler 125 = .ok (.invokevirtual 37, 3) := dk_182 0 37 (dk_at dksX8_fiddler_5 6 rfl rfl)
theorem dX8_fiddler_128 : decode cX8_fiddler 128 = .ok (.iconst 0, 1) := dk_3 (dk_at dksX8_fiddler_5 9 rfl rfl)
theorem dX8_fiddler_129 : decode cX8_fiddler 129 = .ok (.istore 7, 2) := dk_54 7 (dk_at dksX8_fiddler_5 10 rfl rfl)
theorem dX8_fiddler_131 : decode cX8_fiddler 131 = .ok (.iload 7, 2) := dk_21 7 (dk_at dksX8_fiddler_5 12 rfl rfl)
theorem dX8_fiddler_133 : decode cX8_fiddler 133 = .ok (.iconst 4, 1) := dk_7 (dk_at dksX8_fiddler_5 14 rfl rfl)
theorem dX8_fiddler_134 : decode cX8_fiddler 134 = .ok (.if_icmp .ge 31, 3) := dk_162 0 31 (dk_at dksX8_fiddler_5 15 rfl rfl)
theorem dX8_fiddler_137 : decode cX8_fiddler 137 = .ok (.aload 5, 2) := dk_25 5 (dk_at dksX8_fiddler_5 18 rfl rfl)
theorem dX8_fiddler_139 : decode cX8_fiddler 139 = .ok (.iload 7, 2) := dk_21 7 (dk_at dksX8_fiddler_5 20 rfl rfl)
theorem dX8_fiddler_141 : decode cX8_fiddler 141 = .ok (.iload 6, 2) := dk_21 6 (dk_at dksX8_fiddler_5 22 rfl rfl)
theorem dX8_fiddler_143 : decode cX8_fiddler 143 = .ok (.ifCond .eq 13, 3) := dk_153 0 13 (dk_at dksX8_fiddler_6 0 rfl rfl)
theorem dX8_fiddler_146 : decode cX8_fiddler 146 = .ok (.aload_n 0, 1) := dk_42 (dk_at dksX8_fiddler_6 3 rfl rfl)
theorem dX8_fiddler_147 : decode cX8_fiddler 147 = .ok (.iconst 0, 1) := dk_3 (dk_at dksX8_fiddler_6 4 rfl rfl)
theorem dX8_fiddler_148 : decode cX8_fiddler 148 = .ok (.bipush 9, 2) := dk_16 9 (dk_at dksX8_fiddler_6 5 rfl rfl)
theorem dX8_fiddler_150 : decode cX8_fiddler 150 = .ok (.invokevirtual 109, 3) := dk_182 0 109 (dk_at dksX8_fiddler_6 7 rfl rfl)
theorem dX8_fiddler_153 : decode cX8_fiddler 153 = .ok (.goto 5, 3) := dk_167 0 5 (dk_at dksX8_fiddler_6 10 rfl rfl)
theorem dX8_fiddler_156 : decode cX8_fiddler 156 = .ok (.bipush 9, 2) := dk_16 9 (dk_at dksX8_fiddler_6 13 rfl rfl)
theorem dX8_fiddler_158 : decode cX8_fiddler 158 = .ok (.iastore, 1) := dk_79 (dk_at dksX8_fiddler_6 15 rfl rfl)
theorem dX8_fiddler_159 : decode cX8_fiddler 159 = .ok (.iinc 7 1, 3) := dk_132 7 1 (dk_at dksX8_fiddler_6 16 rfl rfl)
theorem dX8_fiddler_162 : decode cX8_fiddler 162 = .ok (.goto (-31), 3) := dk_167 255 225 (dk_at dksX8_fiddler_6 19 rfl rfl)
theorem dX8_fiddler_165 : decode cX8_fiddler 165 = .ok (.aload_n 0, 1) := dk_42 (dk_at dksX8_fiddler_6 22 rfl rfl)
theorem dX8_fiddler_166 : decode cX8_fiddler 166 = .ok (.bipush 59, 2) := dk_16 59 (dk_at dksX8_fiddler_7 0 rfl rfl)
theorem dX8_fiddler_168 : decode cX8_fiddler 168 = .ok (.invokevirtual 137, 3) := dk_182 0 137 (dk_at dksX8_fiddler_7 2 rfl rfl)
theorem dX8_fiddler_171 : decode cX8_fiddler 171 = .ok (.aload_n 1, 1) := dk_43 (dk_at dksX8_fiddler_7 5 rfl rfl)
theorem dX8_fiddler_172 : decode cX8_fiddler 172 = .ok (.aload_n 2, 1) := dk_44 (dk_at dksX8_fiddler_7 6 rfl rfl)
theorem dX8_fiddler_173 : decode cX8_fiddler 173 = .ok (.iload_n 3, 1) := dk_29 (dk_at dksX8_fiddler_7 7 rfl rfl)
theorem dX8_fiddler_174 : decode cX8_fiddler 174 = .ok (.aload 4, 2) := dk_25 4 (dk_at dksX8_fiddler_7 8 rfl rfl)
theorem dX8_fiddler_176 : decode cX8_fiddler 176 = .ok (.aload 5, 2) := dk_25 5 (dk_at dksX8_fiddler_7 10 rfl rfl)
theorem dX8_fiddler_178 : decode cX8_fiddler 178 = .ok (.invokevirtual 163, 3) := dk_182 0 163 (dk_at dksX8_fiddler_7 12 rfl rfl)
theorem dX8_fiddler_181 : decode cX8_fiddler 181 = .ok (.return_, 1) := dk_177 (dk_at dksX8_fiddler_7 15 rfl rfl)
abbrev iX8_fiddler : xM := (yX8_fiddler, cX8_fiddler, 8, none, [])
theorem mX8_fiddler : xOkM iX8_fiddler := ⟨by decide +kernel, by decide, q2122, q176⟩
abbrev cX8_peekName : ByteArray := prog_8_method_11_code
def yX8_peekName : MethodName := ⟨RX8, "peekName", "()Ljava/lang/String;"⟩
def dkwX8_peekName_1 : List UInt8 := [167, 0, 4, 3, 4, 182, 0, 102, 42, 180, 0, 24, 176]
abbrev dktX8_peekName_1 : List UInt8 := dkwX8_peekName_1 ++ []
def dkwX8_peekName_0 : List UInt8 := [42, 42, 180, 0, 34, 178, 0, 69, 166, 0, 19, 42, 180, 0, 24, 182, 0, 112, 16, 6, 163, 0, 7, 4]
abbrev dktX8_peekName_0 : List UInt8 := dkwX8_peekName_0 ++ dktX8_peekName_1
theorem dksX8_peekName_0 : cX8_peekName.data.toList.drop 0 = dktX8_peekName_0 := by decide +kernel
theorem dksX8_peekName_1 : cX8_peekName.data.toList.drop 24 = dktX8_peekName_1 := dk_seg dksX8_peekName_0 24 rfl rfl
theorem dX8_peekName_0 : decode cX8_peekName 0 = .ok (.aload_n 0, 1) := dk_42 (dk_at dksX8_peekName_0 0 rfl rfl)
theorem dX8_peekName_1 : decode cX8_peekName 1 = .ok (.aload_n 0, 1) := dk_42 (dk_at dksX8_peekName_0 1 rfl rfl)
theorem dX8_peekName_2 : decode cX8_peekName 2 = .ok (.getfield 34, 3) := dk_180 0 34 (dk_at dksX8_peekName_0 2 rfl rfl)
theorem dX8_peekName_5 : decode cX8_peekName 5 = .ok (.getstatic 69, 3) := dk_178 0 69 (dk_at dksX8_peekName_0 5 rfl rfl)
theorem dX8_peekName_8 : decode cX8_peekName 8 = .ok (.if_acmp .ne 19, 3) := dk_166 0 19 (dk_at dksX8_peekName_0 8 rfl rfl)
theorem dX8_peekName_11 : decode cX8_peekName 11 = .ok (.aload_n 0, 1) := dk_42 (dk_at dksX8_peekName_0 11 rfl rfl)
theorem dX8_peekName_12 : decode cX8_peekName 12 = .ok (.getfield 24, 3) := dk_180 0 24 (dk_at dksX8_peekName_0 12 rfl rfl)
theorem dX8_peekName_15 : decode cX8_peekName 15 = .ok (.invokevirtual 112, 3) := dk_182 0 112 (dk_at dksX8_peekName_0 15 rfl rfl)
theorem dX8_peekName_18 : decode cX8_peekName 18 = .ok (.bipush 6, 2) := dk_16 6 (dk_at dksX8_peekName_0 18 rfl rfl)
theorem dX8_peekName_20 : decode cX8_peekName 20 = .ok (.if_icmp .gt 7, 3) := dk_163 0 7 (dk_at dksX8_peekName_0 20 rfl rfl)
theorem dX8_peekName_23 : decode cX8_peekName 23 = .ok (.iconst 1, 1) := dk_4 (dk_at dksX8_peekName_0 23 rfl rfl)
theorem dX8_peekName_24 : decode cX8_peekName 24 = .ok (.goto 4, 3) := dk_167 0 4 (dk_at dksX8_peekName_1 0 rfl rfl)
theorem dX8_peekName_27 : decode cX8_peekName 27 = .ok (.iconst 0, 1) := dk_3 (dk_at dksX8_peekName_1 3 rfl rfl)
theorem dX8_peekName_28 : decode cX8_peekName 28 = .ok (.iconst 1, 1) := dk_4 (dk_at dksX8_peekName_1 4 rfl rfl)
theorem dX8_peekName_29 : decode cX8_peekName 29 = .ok (.invokevirtual 102, 3) := dk_182 0 102 (dk_at dksX8_peekName_1 5 rfl rfl)
theorem dX8_peekName_32 : decode cX8_peekName 32 = .ok (.aload_n 0, 1) := dk_42 (dk_at dksX8_peekName_1 8 rfl rfl)
theorem dX8_peekName_33 : decode cX8_peekName 33 = .ok (.getfield 24, 3) := dk_180 0 24 (dk_at dksX8_peekName_1 9 rfl rfl)
theorem dX8_peekName_36 : decode cX8_peekName 36 = .ok (.areturn, 1) := dk_176 (dk_at dksX8_peekName_1 12 rfl rfl)
abbrev iX8_peekName : xM := (yX8_peekName, cX8_peekName, 1, (some (.object "java/lang/String")), [])
theorem mX8_peekName : xOkM iX8_peekName := ⟨by decide +kernel, by decide, q2128, q176⟩
abbrev cX8_signedNumber : ByteArray := prog_8_method_10_code
def yX8_signedNumber : MethodName := ⟨RX8, "signedNumber", "(II)I"⟩
def dkwX8_signedNumber_1 : List UInt8 := [182, 0, 109, 172]
abbrev dktX8_signedNumber_1 : List UInt8 := dkwX8_signedNumber_1 ++ []
def dkwX8_signedNumber_0 : List UInt8 := [42, 16, 45, 182, 0, 106, 153, 0, 13, 42, 27, 28, 182, 0, 109, 116, 167, 0, 9, 42, 27, 28]
abbrev dktX8_signedNumber_0 : List UInt8 := dkwX8_signedNumber_0 ++ dktX8_signedNumber_1
theorem dksX8_signedNumber_0 : cX8_signedNumber.data.toList.drop 0 = dktX8_signedNumber_0 := by decide +kernel
theorem dksX8_signedNumber_1 : cX8_signedNumber.data.toList.drop 22 = dktX8_signedNumber_1 := dk_seg dksX8_signedNumber_0 22 rfl rfl
theorem dX8_signedNumber_0 : decode cX8_signedNumber 0 = .ok (.aload_n 0, 1) := dk_42 (dk_at dksX8_signedNumber_0 0 rfl rfl)
theorem dX8_signedNumber_1 : decode cX8_signedNumber 1 = .ok (.bipush 45, 2) := dk_16 45 (dk_at dksX8_signedNumber_0 1 rfl rfl)
theorem dX8_signedNumber_3 : decode cX8_signedNumber 3 = .ok (.invokevirtual 106, 3) := dk_182 0 106 (dk_at dksX8_signedNumber_0 3 rfl rfl)
theorem dX8_signedNumber_6 : decode cX8_signedNumber 6 = .ok (.ifCond .eq 13, 3) := dk_153 0 13 (dk_at dksX8_signedNumber_0 6 rfl rfl)
theorem dX8_signedNumber_9 : decode cX8_signedNumber 9 = .ok (.aload_n 0, 1) := dk_42 (dk_at dksX8_signedNumber_0 9 rfl rfl)
theorem dX8_signedNumber_10 : decode cX8_signedNumber 10 = .ok (.iload_n 1, 1) := dk_27 (dk_at dksX8_signedNumber_0 10 rfl rfl)
theorem dX8_signedNumber_11 : decode cX8_signedNumber 11 = .ok (.iload_n 2, 1) := dk_28 (dk_at dksX8_signedNumber_0 11 rfl rfl)
theorem dX8_signedNumber_12 : decode cX8_signedNumber 12 = .ok (.invokevirtual 109, 3) := dk_182 0 109 (dk_at dksX8_signedNumber_0 12 rfl rfl)
theorem dX8_signedNumber_15 : decode cX8_signedNumber 15 = .ok (.ineg, 1) := dk_116 (dk_at dksX8_signedNumber_0 15 rfl rfl)
theorem dX8_signedNumber_16 : decode cX8_signedNumber 16 = .ok (.goto 9, 3) := dk_167 0 9 (dk_at dksX8_signedNumber_0 16 rfl rfl)
theorem dX8_signedNumber_19 : decode cX8_signedNumber 19 = .ok (.aload_n 0, 1) := dk_42 (dk_at dksX8_signedNumber_0 19 rfl rfl)
theorem dX8_signedNumber_20 : decode cX8_signedNumber 20 = .ok (.iload_n 1, 1) := dk_27 (dk_at dksX8_signedNumber_0 20 rfl rfl)
theorem dX8_signedNumber_21 : decode cX8_signedNumber 21 = .ok (.iload_n 2, 1) := dk_28 (dk_at dksX8_signedNumber_0 21 rfl rfl)
theorem dX8_signedNumber_22 : decode cX8_signedNumber 22 = .ok (.invokevirtual 109, 3) := dk_182 0 109 (dk_at dksX8_signedNumber_1 0 rfl rfl)
theorem dX8_signedNumber_25 : decode cX8_signedNumber 25 = .ok (.ireturn, 1) := dk_172 (dk_at dksX8_signedNumber_1 3 rfl rfl)
abbrev iX8_signedNumber : xM := (yX8_signedNumber, cX8_signedNumber, 3, (some .int), [])
theorem mX8_signedNumber : xOkM iX8_signedNumber := ⟨by decide +kernel, by decide, q2150, q176⟩
abbrev cX8_accepts : ByteArray := prog_8_method_7_code
def yX8_accepts : MethodName := ⟨RX8, "accepts", "(I)Z"⟩
def dkwX8_accepts_0 : List UInt8 := [42, 27, 182, 0, 98, 61, 28, 153, 0, 7, 42, 182, 0, 37, 28, 172]
abbrev dktX8_accepts_0 : List UInt8 := dkwX8_accepts_0 ++ []
theorem dksX8_accepts_0 : cX8_accepts.data.toList.drop 0 = dktX8_accepts_0 := by decide +kernel
theorem dX8_accepts_0 : decode cX8_accepts 0 = .ok (.aload_n 0, 1) := dk_42 (dk_at dksX8_accepts_0 0 rfl rfl)
theorem dX8_accepts_1 : decode cX8_accepts 1 = .ok (.iload_n 1, 1) := dk_27 (dk_at dksX8_accepts_0 1 rfl rfl)
theorem dX8_accepts_2 : decode cX8_accepts 2 = .ok (.invokevirtual 98, 3) := dk_182 0 98 (dk_at dksX8_accepts_0 2 rfl rfl)
theorem dX8_accepts_5 : decode cX8_accepts 5 = .ok (.istore_n 2, 1) := dk_61 (dk_at dksX8_accepts_0 5 rfl rfl)
theorem dX8_accepts_6 : decode cX8_accepts 6 = .ok (.iload_n 2, 1) := dk_28 (dk_at dksX8_accepts_0 6 rfl rfl)
theorem dX8_accepts_7 : decode cX8_accepts 7 = .ok (.ifCond .eq 7, 3) := dk_153 0 7 (dk_at dksX8_accepts_0 7 rfl rfl)
theorem dX8_accepts_10 : decode cX8_accepts 10 = .ok (.aload_n 0, 1) := dk_42 (dk_at dksX8_accepts_0 10 rfl rfl)
theorem dX8_accepts_11 : decode cX8_accepts 11 = .ok (.invokevirtual 37, 3) := dk_182 0 37 (dk_at dksX8_accepts_0 11 rfl rfl)
theorem dX8_accepts_14 : decode cX8_accepts 14 = .ok (.iload_n 2, 1) := dk_28 (dk_at dksX8_accepts_0 14 rfl rfl)
theorem dX8_accepts_15 : decode cX8_accepts 15 = .ok (.ireturn, 1) := dk_172 (dk_at dksX8_accepts_0 15 rfl rfl)
abbrev iX8_accepts : xM := (yX8_accepts, cX8_accepts, 3, (some .boolean), [])
theorem mX8_accepts : xOkM iX8_accepts := ⟨by decide +kernel, by decide, q2154, q176⟩
abbrev cX8_script : ByteArray := prog_8_method_16_code
def yX8_script : MethodName := ⟨RX8, "script", "()LFiddleRow$Repeat;"⟩
def dkwX8_script_1 : List UInt8 := [3, 182, 0, 174, 182, 0, 178, 87, 167, 255, 233, 43, 176]
abbrev dktX8_script_1 : List UInt8 := dkwX8_script_1 ++ []
def dkwX8_script_0 : List UInt8 := [187, 0, 167, 89, 4, 183, 0, 169, 76, 42, 180, 0, 34, 178, 0, 28, 165, 0, 19, 43, 180, 0, 171, 42]
abbrev dktX8_script_0 : List UInt8 := dkwX8_script_0 ++ dktX8_script_1
theorem dksX8_script_0 : cX8_script.data.toList.drop 0 = dktX8_script_0 := by decide +kernel
theorem dksX8_script_1 : cX8_script.data.toList.drop 24 = dktX8_script_1 := dk_seg dksX8_script_0 24 rfl rfl
theorem dX8_script_0 : decode cX8_script 0 = .ok (.new 167, 3) := dk_187 0 167 (dk_at dksX8_script_0 0 rfl rfl)
theorem dX8_script_3 : decode cX8_script 3 = .ok (.dup, 1) := dk_89 (dk_at dksX8_script_0 3 rfl rfl)
theorem dX8_script_4 : decode cX8_script 4 = .ok (.iconst 1, 1) := dk_4 (dk_at dksX8_script_0 4 rfl rfl)
theorem dX8_script_5 : decode cX8_script 5 = .ok (.invokespecial 169, 3) := dk_183 0 169 (dk_at dksX8_script_0 5 rfl rfl)
theorem dX8_script_8 : decode cX8_script 8 = .ok (.astore_n 1, 1) := dk_76 (dk_at dksX8_script_0 8 rfl rfl)
theorem dX8_script_9 : decode cX8_script 9 = .ok (.aload_n 0, 1) := dk_42 (dk_at dksX8_script_0 9 rfl rfl)
theorem dX8_script_10 : decode cX8_script 10 = .ok (.getfield 34, 3) := dk_180 0 34 (dk_at dksX8_script_0 10 rfl rfl)
theorem dX8_script_13 : decode cX8_script 13 = .ok (.getstatic 28, 3) := dk_178 0 28 (dk_at dksX8_script_0 13 rfl rfl)
theorem dX8_script_16 : decode cX8_script 16 = .ok (.if_acmp .eq 19, 3) := dk_165 0 19 (dk_at dksX8_script_0 16 rfl rfl)
theorem dX8_script_19 : decode cX8_script 19 = .ok (.aload_n 1, 1) := dk_43 (dk_at dksX8_script_0 19 rfl rfl)
theorem dX8_script_20 : decode cX8_script 20 = .ok (.getfield 171, 3) := dk_180 0 171 (dk_at dksX8_script_0 20 rfl rfl)
theorem dX8_script_23 : decode cX8_script 23 = .ok (.aload_n 0, 1) := dk_42 (dk_at dksX8_script_0 23 rfl rfl)
theorem dX8_script_24 : decode cX8_script 24 = .ok (.iconst 0, 1) := dk_3 (dk_at dksX8_script_1 0 rfl rfl)
theorem dX8_script_25 : decode cX8_script 25 = .ok (.invokevirtual 174, 3) := dk_182 0 174 (dk_at dksX8_script_1 1 rfl rfl)
theorem dX8_script_28 : decode cX8_script 28 = .ok (.invokevirtual 178, 3) := dk_182 0 178 (dk_at dksX8_script_1 4 rfl rfl)
theorem dX8_script_31 : decode cX8_script 31 = .ok (.pop, 1) := dk_87 (dk_at dksX8_script_1 7 rfl rfl)
theorem dX8_script_32 : decode cX8_script 32 = .ok (.goto (-23), 3) := dk_167 255 233 (dk_at dksX8_script_1 8 rfl rfl)
theorem dX8_script_35 : decode cX8_script 35 = .ok (.aload_n 1, 1) := dk_43 (dk_at dksX8_script_1 11 rfl rfl)
theorem dX8_script_36 : decode cX8_script 36 = .ok (.areturn, 1) := dk_176 (dk_at dksX8_script_1 12 rfl rfl)
abbrev iX8_script : xM := (yX8_script, cX8_script, 2, (some (.object "FiddleRow$Repeat")), [])
theorem mX8_script : xOkM iX8_script := ⟨by decide +kernel, by decide, q2169, q176⟩
abbrev cX8_part : ByteArray := prog_8_method_18_code
def yX8_part : MethodName := ⟨RX8, "part", "(I)LFiddleRow$Part;"⟩
def dkwX8_part_3 : List UInt8 := [16, 59, 182, 0, 137, 45, 176]
abbrev dktX8_part_3 : List UInt8 := dkwX8_part_3 ++ []
def dkwX8_part_2 : List UInt8 := [18, 202, 182, 0, 92, 153, 0, 11, 42, 27, 182, 0, 211, 167, 0, 8, 42, 44, 182, 0, 214, 78, 42]
abbrev dktX8_part_2 : List UInt8 := dkwX8_part_2 ++ dktX8_part_3
def dkwX8_part_1 : List UInt8 := [7, 182, 0, 102, 42, 89, 180, 0, 208, 4, 96, 181, 0, 208, 42, 180, 0, 24, 77, 42, 182, 0, 37, 44]
abbrev dktX8_part_1 : List UInt8 := dkwX8_part_1 ++ dktX8_part_2
def dkwX8_part_0 : List UInt8 := [42, 42, 182, 0, 204, 4, 182, 0, 102, 42, 42, 180, 0, 208, 16, 30, 162, 0, 7, 4, 167, 0, 4, 3]
abbrev dktX8_part_0 : List UInt8 := dkwX8_part_0 ++ dktX8_part_1
theorem dksX8_part_0 : cX8_part.data.toList.drop 0 = dktX8_part_0 := by decide +kernel
theorem dksX8_part_1 : cX8_part.data.toList.drop 24 = dktX8_part_1 := dk_seg dksX8_part_0 24 rfl rfl
theorem dksX8_part_2 : cX8_part.data.toList.drop 48 = dktX8_part_2 := dk_seg dksX8_part_1 24 rfl rfl
theorem dksX8_part_3 : cX8_part.data.toList.drop 71 = dktX8_part_3 := dk_seg dksX8_part_2 23 rfl rfl
theorem dX8_part_0 : decode cX8_part 0 = .ok (.aload_n 0, 1) := dk_42 (dk_at dksX8_part_0 0 rfl rfl)
theorem dX8_part_1 : decode cX8_part 1 = .ok (.aload_n 0, 1) := dk_42 (dk_at dksX8_part_0 1 rfl rfl)
theorem dX8_part_2 : decode cX8_part 2 = .ok (.invokevirtual 204, 3) := dk_182 0 204 (dk_at dksX8_part_0 2 rfl rfl)
theorem dX8_part_5 : decode cX8_part 5 = .ok (.iconst 1, 1) := dk_4 (dk_at dksX8_part_0 5 rfl rfl)
theorem dX8_part_6 : decode cX8_part 6 = .ok (.invokevirtual 102, 3) := dk_182 0 102 (dk_at dksX8_part_0 6 rfl rfl)
theorem dX8_part_9 : decode cX8_part 9 = .ok (.aload_n 0, 1) := dk_42 (dk_at dksX8_part_0 9 rfl rfl)
theorem dX8_part_10 : decode cX8_part 10 = .ok (.aload_n 0, 1) := dk_42 (dk_at dksX8_part_0 10 rfl rfl)
theorem dX8_part_11 : decode cX8_part 11 = .ok (.getfield 208, 3) := dk_180 0 208 (dk_at dksX8_part_0 11 rfl rfl)
theorem dX8_part_14 : decode cX8_part 14 = .ok (.bipush 30, 2) := dk_16 30 (dk_at dksX8_part_0 14 rfl rfl)
theorem dX8_part_16 : decode cX8_part 16 = .ok (.if_icmp .ge 7, 3) := dk_162 0 7 (dk_at dksX8_part_0 16 rfl rfl)
theorem dX8_part_19 : decode cX8_part 19 = .ok (.iconst 1, 1) := dk_4 (dk_at dksX8_part_0 19 rfl rfl)
theorem dX8_part_20 : decode cX8_part 20 = .ok (.goto 4, 3) := dk_167 0 4 (dk_at dksX8_part_0 20 rfl rfl)
theorem dX8_part_23 : decode cX8_part 23 = .ok (.iconst 0, 1) := dk_3 (dk_at dksX8_part_0 23 rfl rfl)
theorem dX8_part_24 : decode cX8_part 24 = .ok (.iconst 4, 1) := dk_7 (dk_at dksX8_part_1 0 rfl rfl)
theorem dX8_part_25 : decode cX8_part 25 = .ok (.invokevirtual 102, 3) := dk_182 0 102 (dk_at dksX8_part_1 1 rfl rfl)
theorem dX8_part_28 : decode cX8_part 28 = .ok (.aload_n 0, 1) := dk_42 (dk_at dksX8_part_1 4 rfl rfl)
theorem dX8_part_29 : decode cX8_part 29 = .ok (.dup, 1) := dk_89 (dk_at dksX8_part_1 5 rfl rfl)
theorem dX8_part_30 : decode cX8_part 30 = .ok (.getfield 208, 3) := dk_180 0 208 (dk_at dksX8_part_1 6 rfl rfl)
theorem dX8_part_33 : decode cX8_part 33 = .ok (.iconst 1, 1) := dk_4 (dk_at dksX8_part_1 9 rfl rfl)
theorem dX8_part_34 : decode cX8_part 34 = .ok (.iadd, 1) := dk_96 (dk_at dksX8_part_1 10 rfl rfl)
theorem dX8_part_35 : decode cX8_part 35 = .ok (.putfield 208, 3) := dk_181 0 208 (dk_at dksX8_part_1 11 rfl rfl)
theorem dX8_part_38 : decode cX8_part 38 = .ok (.aload_n 0, 1) := dk_42 (dk_at dksX8_part_1 14 rfl rfl)
theorem dX8_part_39 : decode cX8_part 39 = .ok (.getfield 24, 3) := dk_180 0 24 (dk_at dksX8_part_1 15 rfl rfl)
theorem dX8_part_42 : decode cX8_part 42 = .ok (.astore_n 2, 1) := dk_77 (dk_at dksX8_part_1 18 rfl rfl)
theorem dX8_part_43 : decode cX8_part 43 = .ok (.aload_n 0, 1) := dk_42 (dk_at dksX8_part_1 19 rfl rfl)
theorem dX8_part_44 : decode cX8_part 44 = .ok (.invokevirtual 37, 3) := dk_182 0 37 (dk_at dksX8_part_1 20 rfl rfl)
theorem dX8_part_47 : decode cX8_part 47 = .ok (.aload_n 2, 1) := dk_44 (dk_at dksX8_part_1 23 rfl rfl)
theorem dX8_part_48 : decode cX8_part 48 = .ok (.ldc 202, 2) := dk_18 202 (dk_at dksX8_part_2 0 rfl rfl)
theorem dX8_part_50 : decode cX8_part 50 = .ok (.invokevirtual 92, 3) := dk_182 0 92 (dk_at dksX8_part_2 2 rfl rfl)
theorem dX8_part_53 : decode cX8_part 53 = .ok (.ifCond .eq 11, 3) := dk_153 0 11 (dk_at dksX8_part_2 5 rfl rfl)
theorem dX8_part_56 : decode cX8_part 56 = .ok (.aload_n 0, 1) := dk_42 (dk_at dksX8_part_2 8 rfl rfl)
theorem dX8_part_57 : decode cX8_part 57 = .ok (.iload_n 1, 1) := dk_27 (dk_at dksX8_part_2 9 rfl rfl)
theorem dX8_part_58 : decode cX8_part 58 = .ok (.invokevirtual 211, 3) := dk_182 0 211 (dk_at dksX8_part_2 10 rfl rfl)
theorem dX8_part_61 : decode cX8_part 61 = .ok (.goto 8, 3) := dk_167 0 8 (dk_at dksX8_part_2 13 rfl rfl)
theorem dX8_part_64 : decode cX8_part 64 = .ok (.aload_n 0, 1) := dk_42 (dk_at dksX8_part_2 16 rfl rfl)
theorem dX8_part_65 : decode cX8_part 65 = .ok (.aload_n 2, 1) := dk_44 (dk_at dksX8_part_2 17 rfl rfl)
theorem dX8_part_66 : decode cX8_part 66 = .ok (.invokevirtual 214, 3) := dk_182 0 214 (dk_at dksX8_part_2 18 rfl rfl)
theorem dX8_part_69 : decode cX8_part 69 = .ok (.astore_n 3, 1) := dk_78 (dk_at dksX8_part_2 21 rfl rfl)
theorem dX8_part_70 : decode cX8_part 70 = .ok (.aload_n 0, 1) := dk_42 (dk_at dksX8_part_2 22 rfl rfl)
theorem dX8_part_71 : decode cX8_part 71 = .ok (.bipush 59, 2) := dk_16 59 (dk_at dksX8_part_3 0 rfl rfl)
theorem dX8_part_73 : decode cX8_part 73 = .ok (.invokevirtual 137, 3) := dk_182 0 137 (dk_at dksX8_part_3 2 rfl rfl)
theorem dX8_part_76 : decode cX8_part 76 = .ok (.aload_n 3, 1) := dk_45 (dk_at dksX8_part_3 5 rfl rfl)
theorem dX8_part_77 : decode cX8_part 77 = .ok (.areturn, 1) := dk_176 (dk_at dksX8_part_3 6 rfl rfl)
abbrev iX8_part : xM := (yX8_part, cX8_part, 4, (some (.object "FiddleRow$Part")), [])
theorem mX8_part : xOkM iX8_part := ⟨by decide +kernel, by decide, q2189, q176⟩
abbrev cX8_isCommand : ByteArray := prog_8_method_17_code
def yX8_isCommand : MethodName := ⟨RX8, "isCommand", "()Z"⟩
def dkwX8_isCommand_10 : List UInt8 := [4, 167, 0, 4, 3, 172]
abbrev dktX8_isCommand_10 : List UInt8 := dkwX8_isCommand_10 ++ []
def dkwX8_isCommand_9 : List UInt8 := [170, 0, 0, 0, 0, 58, 0, 0, 0, 0, 0, 0, 0, 9, 0, 0, 0, 54, 0, 0, 0, 54, 0, 0, 0, 54, 0, 0, 0, 54, 0, 0, 0, 54, 0, 0, 0, 54, 0, 0, 0, 54, 0, 0, 0, 54, 0, 0, 0, 54, 0, 0, 0, 54]
abbrev dktX8_isCommand_9 : List UInt8 := dkwX8_isCommand_9 ++ dktX8_isCommand_10
def dkwX8_isCommand_8 : List UInt8 := [28]
abbrev dktX8_isCommand_8 : List UInt8 := dkwX8_isCommand_8 ++ dktX8_isCommand_9
def dkwX8_isCommand_7 : List UInt8 := [182, 0, 92, 153, 0, 21, 16, 8, 61, 167, 0, 15, 43, 18, 202, 182, 0, 92, 153, 0, 6, 16, 9, 61]
abbrev dktX8_isCommand_7 : List UInt8 := dkwX8_isCommand_7 ++ dktX8_isCommand_8
def dkwX8_isCommand_6 : List UInt8 := [61, 167, 0, 45, 43, 18, 198, 182, 0, 92, 153, 0, 36, 16, 7, 61, 167, 0, 30, 43, 18, 200]
abbrev dktX8_isCommand_6 : List UInt8 := dkwX8_isCommand_6 ++ dktX8_isCommand_7
def dkwX8_isCommand_5 : List UInt8 := [18, 194, 182, 0, 92, 153, 0, 65, 8, 61, 167, 0, 60, 43, 18, 196, 182, 0, 92, 153, 0, 51, 16, 6]
abbrev dktX8_isCommand_5 : List UInt8 := dkwX8_isCommand_5 ++ dktX8_isCommand_6
def dkwX8_isCommand_4 : List UInt8 := [153, 0, 93, 6, 61, 167, 0, 88, 43, 18, 192, 182, 0, 92, 153, 0, 79, 7, 61, 167, 0, 74, 43]
abbrev dktX8_isCommand_4 : List UInt8 := dkwX8_isCommand_4 ++ dktX8_isCommand_5
def dkwX8_isCommand_3 : List UInt8 := [61, 167, 0, 116, 43, 18, 188, 182, 0, 92, 153, 0, 107, 5, 61, 167, 0, 102, 43, 18, 190, 182, 0, 92]
abbrev dktX8_isCommand_3 : List UInt8 := dkwX8_isCommand_3 ++ dktX8_isCommand_4
def dkwX8_isCommand_2 : List UInt8 := [43, 18, 184, 182, 0, 92, 153, 0, 135, 3, 61, 167, 0, 130, 43, 18, 186, 182, 0, 92, 153, 0, 121, 4]
abbrev dktX8_isCommand_2 : List UInt8 := dkwX8_isCommand_2 ++ dktX8_isCommand_3
def dkwX8_isCommand_1 : List UInt8 := [171, 0, 0, 0, 230, 0, 0, 0, 10, 200, 76, 45, 155, 0, 0, 0, 218, 203, 126, 113, 145, 0, 0, 0, 188, 0, 49, 221, 42, 0, 0, 0, 173, 0, 54, 17, 147, 0, 0, 0, 145, 0, 54, 127, 248, 0, 0, 0, 89, 0, 54, 128, 125, 0, 0, 0, 103, 5, 163, 215, 27, 0, 0, 0, 117, 5, 237, 199, 15, 0, 0, 0, 203, 6, 33, 78, 183, 0, 0, 0, 159, 65, 60, 178, 180, 0, 0, 0, 131]
abbrev dktX8_isCommand_1 : List UInt8 := dkwX8_isCommand_1 ++ dktX8_isCommand_2
def dkwX8_isCommand_0 : List UInt8 := [42, 180, 0, 24, 76, 2, 61, 43, 182, 0, 181]
abbrev dktX8_isCommand_0 : List UInt8 := dkwX8_isCommand_0 ++ dktX8_isCommand_1
theorem dksX8_isCommand_0 : cX8_isCommand.data.toList.drop 0 = dktX8_isCommand_0 := by decide +kernel
theorem dksX8_isCommand_1 : cX8_isCommand.data.toList.drop 11 = dktX8_isCommand_1 := dk_seg dksX8_isCommand_0 11 rfl rfl
theorem dksX8_isCommand_2 : cX8_isCommand.data.toList.drop 100 = dktX8_isCommand_2 := dk_seg dksX8_isCommand_1 89 rfl rfl
theorem dksX8_isCommand_3 : cX8_isCommand.data.toList.drop 124 = dktX8_isCommand_3 := dk_seg dksX8_isCommand_2 24 rfl rfl
theorem dksX8_isCommand_4 : cX8_isCommand.data.toList.drop 148 = dktX8_isCommand_4 := dk_seg dksX8_isCommand_3 24 rfl rfl
theorem dksX8_isCommand_5 : cX8_isCommand.data.toList.drop 171 = dktX8_isCommand_5 := dk_seg dksX8_isCommand_4 23 rfl rfl
theorem dksX8_isCommand_6 : cX8_isCommand.data.toList.drop 195 = dktX8_isCommand_6 := dk_seg dksX8_isCommand_5 24 rfl rfl
theorem dksX8_isCommand_7 : cX8_isCommand.data.toList.drop 217 = dktX8_isCommand_7 := dk_seg dksX8_isCommand_6 22 rfl rfl
theorem dksX8_isCommand_8 : cX8_isCommand.data.toList.drop 241 = dktX8_isCommand_8 := dk_seg dksX8_isCommand_7 24 rfl rfl
theorem dksX8_isCommand_9 : cX8_isCommand.data.toList.drop 242 = dktX8_isCommand_9 := dk_seg dksX8_isCommand_8 1 rfl rfl
theorem dksX8_isCommand_10 : cX8_isCommand.data.toList.drop 296 = dktX8_isCommand_10 := dk_seg dksX8_isCommand_9 54 rfl rfl
theorem dX8_isCommand_0 : decode cX8_isCommand 0 = .ok (.aload_n 0, 1) := dk_42 (dk_at dksX8_isCommand_0 0 rfl rfl)
theorem dX8_isCommand_1 : decode cX8_isCommand 1 = .ok (.getfield 24, 3) := dk_180 0 24 (dk_at dksX8_isCommand_0 1 rfl rfl)
theorem dX8_isCommand_4 : decode cX8_isCommand 4 = .ok (.astore_n 1, 1) := dk_76 (dk_at dksX8_isCommand_0 4 rfl rfl)
theorem dX8_isCommand_5 : decode cX8_isCommand 5 = .ok (.iconst (-1), 1) := dk_2 (dk_at dksX8_isCommand_0 5 rfl rfl)
theorem dX8_isCommand_6 : decode cX8_isCommand 6 = .ok (.istore_n 2, 1) := dk_61 (dk_at dksX8_isCommand_0 6 rfl rfl)
theorem dX8_isCommand_7 : decode cX8_isCommand 7 = .ok (.aload_n 1, 1) := dk_43 (dk_at dksX8_isCommand_0 7 rfl rfl)
theorem dX8_isCommand_8 : decode cX8_isCommand 8 = .ok (.invokevirtual 181, 3) := dk_182 0 181 (dk_at dksX8_isCommand_0 8 rfl rfl)
theorem dX8_isCommand_11 : decode cX8_isCommand 11 = .ok (.lookupswitch 230 #[(-934531685, 218), (-880905839, 188), (3267882, 173), (3543443, 145), (3571704, 89), (3571837, 103), (94623515, 117), (99469071, 203), (102846135, 159), (1094496948, 131)], 89) := by decide +kernel
theorem dX8_isCommand_100 : decode cX8_isCommand 100 = .ok (.aload_n 1, 1) := dk_43 (dk_at dksX8_isCommand_2 0 rfl rfl)
theorem dX8_isCommand_101 : decode cX8_isCommand 101 = .ok (.ldc 184, 2) := dk_18 184 (dk_at dksX8_isCommand_2 1 rfl rfl)
theorem dX8_isCommand_103 : decode cX8_isCommand 103 = .ok (.invokevirtual 92, 3) := dk_182 0 92 (dk_at dksX8_isCommand_2 3 rfl rfl)
theorem dX8_isCommand_106 : decode cX8_isCommand 106 = .ok (.ifCond .eq 135, 3) := dk_153 0 135 (dk_at dksX8_isCommand_2 6 rfl rfl)
theorem dX8_isCommand_109 : decode cX8_isCommand 109 = .ok (.iconst 0, 1) := dk_3 (dk_at dksX8_isCommand_2 9 rfl rfl)
theorem dX8_isCommand_110 : decode cX8_isCommand 110 = .ok (.istore_n 2, 1) := dk_61 (dk_at dksX8_isCommand_2 10 rfl rfl)
theorem dX8_isCommand_111 : decode cX8_isCommand 111 = .ok (.goto 130, 3) := dk_167 0 130 (dk_at dksX8_isCommand_2 11 rfl rfl)
theorem dX8_isCommand_114 : decode cX8_isCommand 114 = .ok (.aload_n 1, 1) := dk_43 (dk_at dksX8_isCommand_2 14 rfl rfl)
theorem dX8_isCommand_115 : decode cX8_isCommand 115 = .ok (.ldc 186, 2) := dk_18 186 (dk_at dksX8_isCommand_2 15 rfl rfl)
theorem dX8_isCommand_117 : decode cX8_isCommand 117 = .ok (.invokevirtual 92, 3) := dk_182 0 92 (dk_at dksX8_isCommand_2 17 rfl rfl)
theorem dX8_isCommand_120 : decode cX8_isCommand 120 = .ok (.ifCond .eq 121, 3) := dk_153 0 121 (dk_at dksX8_isCommand_2 20 rfl rfl)
theorem dX8_isCommand_123 : decode cX8_isCommand 123 = .ok (.iconst 1, 1) := dk_4 (dk_at dksX8_isCommand_2 23 rfl rfl)
theorem dX8_isCommand_124 : decode cX8_isCommand 124 = .ok (.istore_n 2, 1) := dk_61 (dk_at dksX8_isCommand_3 0 rfl rfl)
theorem dX8_isCommand_125 : decode cX8_isCommand 125 = .ok (.goto 116, 3) := dk_167 0 116 (dk_at dksX8_isCommand_3 1 rfl rfl)
theorem dX8_isCommand_128 : decode cX8_isCommand 128 = .ok (.aload_n 1, 1) := dk_43 (dk_at dksX8_isCommand_3 4 rfl rfl)
theorem dX8_isCommand_129 : decode cX8_isCommand 129 = .ok (.ldc 188, 2) := dk_18 188 (dk_at dksX8_isCommand_3 5 rfl rfl)
theorem dX8_isCommand_131 : decode cX8_isCommand 131 = .ok (.invokevirtual 92, 3) := dk_182 0 92 (dk_at dksX8_isCommand_3 7 rfl rfl)
theorem dX8_isCommand_134 : decode cX8_isCommand 134 = .ok (.ifCond .eq 107, 3) := dk_153 0 107 (dk_at dksX8_isCommand_3 10 rfl rfl)
theorem dX8_isCommand_137 : decode cX8_isCommand 137 = .ok (.iconst 2, 1) := dk_5 (dk_at dksX8_isCommand_3 13 rfl rfl)
theorem dX8_isCommand_138 : decode cX8_isCommand 138 = .ok (.istore_n 2, 1) := dk_61 (dk_at dksX8_isCommand_3 14 rfl rfl)
theorem dX8_isCommand_139 : decode cX8_isCommand 139 = .ok (.goto 102, 3) := dk_167 0 102 (dk_at dksX8_isCommand_3 15 rfl rfl)
theorem dX8_isCommand_142 : decode cX8_isCommand 142 = .ok (.aload_n 1, 1) := dk_43 (dk_at dksX8_isCommand_3 18 rfl rfl)
theorem dX8_isCommand_143 : decode cX8_isCommand 143 = .ok (.ldc 190, 2) := dk_18 190 (dk_at dksX8_isCommand_3 19 rfl rfl)
theorem dX8_isCommand_145 : decode cX8_isCommand 145 = .ok (.invokevirtual 92, 3) := dk_182 0 92 (dk_at dksX8_isCommand_3 21 rfl rfl)
theorem dX8_isCommand_148 : decode cX8_isCommand 148 = .ok (.ifCond .eq 93, 3) := dk_153 0 93 (dk_at dksX8_isCommand_4 0 rfl rfl)
theorem dX8_isCommand_151 : decode cX8_isCommand 151 = .ok (.iconst 3, 1) := dk_6 (dk_at dksX8_isCommand_4 3 rfl rfl)
theorem dX8_isCommand_152 : decode cX8_isCommand 152 = .ok (.istore_n 2, 1) := dk_61 (dk_at dksX8_isCommand_4 4 rfl rfl)
theorem dX8_isCommand_153 : decode cX8_isCommand 153 = .ok (.goto 88, 3) := dk_167 0 88 (dk_at dksX8_isCommand_4 5 rfl rfl)
theorem dX8_isCommand_156 : decode cX8_isCommand 156 = .ok (.aload_n 1, 1) := dk_43 (dk_at dksX8_isCommand_4 8 rfl rfl)
theorem dX8_isCommand_157 : decode cX8_isCommand 157 = .ok (.ldc 192, 2) := dk_18 192 (dk_at dksX8_isCommand_4 9 rfl rfl)
theorem dX8_isCommand_159 : decode cX8_isCommand 159 = .ok (.invokevirtual 92, 3) := dk_182 0 92 (dk_at dksX8_isCommand_4 11 rfl rfl)
theorem dX8_isCommand_162 : decode cX8_isCommand 162 = .ok (.ifCond .eq 79, 3) := dk_153 0 79 (dk_at dksX8_isCommand_4 14 rfl rfl)
theorem dX8_isCommand_165 : decode cX8_isCommand 165 = .ok (.iconst 4, 1) := dk_7 (dk_at dksX8_isCommand_4 17 rfl rfl)
theorem dX8_isCommand_166 : decode cX8_isCommand 166 = .ok (.istore_n 2, 1) := dk_61 (dk_at dksX8_isCommand_4 18 rfl rfl)
theorem dX8_isCommand_167 : decode cX8_isCommand 167 = .ok (.goto 74, 3) := dk_167 0 74 (dk_at dksX8_isCommand_4 19 rfl rfl)
theorem dX8_isCommand_170 : decode cX8_isCommand 170 = .ok (.aload_n 1, 1) := dk_43 (dk_at dksX8_isCommand_4 22 rfl rfl)
theorem dX8_isCommand_171 : decode cX8_isCommand 171 = .ok (.ldc 194, 2) := dk_18 194 (dk_at dksX8_isCommand_5 0 rfl rfl)
theorem dX8_isCommand_173 : decode cX8_isCommand 173 = .ok (.invokevirtual 92, 3) := dk_182 0 92 (dk_at dksX8_isCommand_5 2 rfl rfl)
theorem dX8_isCommand_176 : decode cX8_isCommand 176 = .ok (.ifCond .eq 65, 3) := dk_153 0 65 (dk_at dksX8_isCommand_5 5 rfl rfl)
theorem dX8_isCommand_179 : decode cX8_isCommand 179 = .ok (.iconst 5, 1) := dk_8 (dk_at dksX8_isCommand_5 8 rfl rfl)
theorem dX8_isCommand_180 : decode cX8_isCommand 180 = .ok (.istore_n 2, 1) := dk_61 (dk_at dksX8_isCommand_5 9 rfl rfl)
theorem dX8_isCommand_181 : decode cX8_isCommand 181 = .ok (.goto 60, 3) := dk_167 0 60 (dk_at dksX8_isCommand_5 10 rfl rfl)
theorem dX8_isCommand_184 : decode cX8_isCommand 184 = .ok (.aload_n 1, 1) := dk_43 (dk_at dksX8_isCommand_5 13 rfl rfl)
theorem dX8_isCommand_185 : decode cX8_isCommand 185 = .ok (.ldc 196, 2) := dk_18 196 (dk_at dksX8_isCommand_5 14 rfl rfl)
theorem dX8_isCommand_187 : decode cX8_isCommand 187 = .ok (.invokevirtual 92, 3) := dk_182 0 92 (dk_at dksX8_isCommand_5 16 rfl rfl)
theorem dX8_isCommand_190 : decode cX8_isCommand 190 = .ok (.ifCond .eq 51, 3) := dk_153 0 51 (dk_at dksX8_isCommand_5 19 rfl rfl)
theorem dX8_isCommand_193 : decode cX8_isCommand 193 = .ok (.bipush 6, 2) := dk_16 6 (dk_at dksX8_isCommand_5 22 rfl rfl)
theorem dX8_isCommand_195 : decode cX8_isCommand 195 = .ok (.istore_n 2, 1) := dk_61 (dk_at dksX8_isCommand_6 0 rfl rfl)
theorem dX8_isCommand_196 : decode cX8_isCommand 196 = .ok (.goto 45, 3) := dk_167 0 45 (dk_at dksX8_isCommand_6 1 rfl rfl)
theorem dX8_isCommand_199 : decode cX8_isCommand 199 = .ok (.aload_n 1, 1) := dk_43 (dk_at dksX8_isCommand_6 4 rfl rfl)
theorem dX8_isCommand_200 : decode cX8_isCommand 200 = .ok (.ldc 198, 2) := dk_18 198 (dk_at dksX8_isCommand_6 5 rfl rfl)
theorem dX8_isCommand_202 : decode cX8_isCommand 202 = .ok (.invokevirtual 92, 3) := dk_182 0 92 (dk_at dksX8_isCommand_6 7 rfl rfl)
theorem dX8_isCommand_205 : decode cX8_isCommand 205 = .ok (.ifCond .eq 36, 3) := dk_153 0 36 (dk_at dksX8_isCommand_6 10 rfl rfl)
theorem dX8_isCommand_208 : decode cX8_isCommand 208 = .ok (.bipush 7, 2) := dk_16 7 (dk_at dksX8_isCommand_6 13 rfl rfl)
theorem dX8_isCommand_210 : decode cX8_isCommand 210 = .ok (.istore_n 2, 1) := dk_61 (dk_at dksX8_isCommand_6 15 rfl rfl)
theorem dX8_isCommand_211 : decode cX8_isCommand 211 = .ok (.goto 30, 3) := dk_167 0 30 (dk_at dksX8_isCommand_6 16 rfl rfl)
theorem dX8_isCommand_214 : decode cX8_isCommand 214 = .ok (.aload_n 1, 1) := dk_43 (dk_at dksX8_isCommand_6 19 rfl rfl)
theorem dX8_isCommand_215 : decode cX8_isCommand 215 = .ok (.ldc 200, 2) := dk_18 200 (dk_at dksX8_isCommand_6 20 rfl rfl)
theorem dX8_isCommand_217 : decode cX8_isCommand 217 = .ok (.invokevirtual 92, 3) := dk_182 0 92 (dk_at dksX8_isCommand_7 0 rfl rfl)
theorem dX8_isCommand_220 : decode cX8_isCommand 220 = .ok (.ifCond .eq 21, 3) := dk_153 0 21 (dk_at dksX8_isCommand_7 3 rfl rfl)
theorem dX8_isCommand_223 : decode cX8_isCommand 223 = .ok (.bipush 8, 2) := dk_16 8 (dk_at dksX8_isCommand_7 6 rfl rfl)
theorem dX8_isCommand_225 : decode cX8_isCommand 225 = .ok (.istore_n 2, 1) := dk_61 (dk_at dksX8_isCommand_7 8 rfl rfl)
theorem dX8_isCommand_226 : decode cX8_isCommand 226 = .ok (.goto 15, 3) := dk_167 0 15 (dk_at dksX8_isCommand_7 9 rfl rfl)
theorem dX8_isCommand_229 : decode cX8_isCommand 229 = .ok (.aload_n 1, 1) := dk_43 (dk_at dksX8_isCommand_7 12 rfl rfl)
theorem dX8_isCommand_230 : decode cX8_isCommand 230 = .ok (.ldc 202, 2) := dk_18 202 (dk_at dksX8_isCommand_7 13 rfl rfl)
theorem dX8_isCommand_232 : decode cX8_isCommand 232 = .ok (.invokevirtual 92, 3) := dk_182 0 92 (dk_at dksX8_isCommand_7 15 rfl rfl)
theorem dX8_isCommand_235 : decode cX8_isCommand 235 = .ok (.ifCond .eq 6, 3) := dk_153 0 6 (dk_at dksX8_isCommand_7 18 rfl rfl)
theorem dX8_isCommand_238 : decode cX8_isCommand 238 = .ok (.bipush 9, 2) := dk_16 9 (dk_at dksX8_isCommand_7 21 rfl rfl)
theorem dX8_isCommand_240 : decode cX8_isCommand 240 = .ok (.istore_n 2, 1) := dk_61 (dk_at dksX8_isCommand_7 23 rfl rfl)
theorem dX8_isCommand_241 : decode cX8_isCommand 241 = .ok (.iload_n 2, 1) := dk_28 (dk_at dksX8_isCommand_8 0 rfl rfl)
theorem dX8_isCommand_242 : decode cX8_isCommand 242 = .ok (.tableswitch 58 0 9 #[54, 54, 54, 54, 54, 54, 54, 54, 54, 54], 54) := by decide +kernel
theorem dX8_isCommand_296 : decode cX8_isCommand 296 = .ok (.iconst 1, 1) := dk_4 (dk_at dksX8_isCommand_10 0 rfl rfl)
theorem dX8_isCommand_297 : decode cX8_isCommand 297 = .ok (.goto 4, 3) := dk_167 0 4 (dk_at dksX8_isCommand_10 1 rfl rfl)
theorem dX8_isCommand_300 : decode cX8_isCommand 300 = .ok (.iconst 0, 1) := dk_3 (dk_at dksX8_isCommand_10 4 rfl rfl)
theorem dX8_isCommand_301 : decode cX8_isCommand 301 = .ok (.ireturn, 1) := dk_172 (dk_at dksX8_isCommand_10 5 rfl rfl)
abbrev iX8_isCommand : xM := (yX8_isCommand, cX8_isCommand, 3, (some .boolean), [])
theorem mX8_isCommand : xOkM iX8_isCommand := ⟨by decide +kernel, by decide, q2193, q176⟩
abbrev cX8_repeat : ByteArray := prog_8_method_19_code
def yX8_repeat : MethodName := ⟨RX8, "repeat", "(I)LFiddleRow$Repeat;"⟩
def dkwX8_repeat_3 : List UInt8 := [167, 255, 232, 42, 182, 0, 37, 44, 176]
abbrev dktX8_repeat_3 : List UInt8 := dkwX8_repeat_3 ++ []
def dkwX8_repeat_2 : List UInt8 := [16, 41, 182, 0, 98, 154, 0, 21, 44, 180, 0, 171, 42, 27, 4, 96, 182, 0, 174, 182, 0, 178, 87]
abbrev dktX8_repeat_2 : List UInt8 := dkwX8_repeat_2 ++ dktX8_repeat_3
def dkwX8_repeat_1 : List UInt8 := [182, 0, 102, 42, 27, 5, 162, 0, 7, 4, 167, 0, 4, 3, 7, 182, 0, 102, 42, 182, 0, 37, 42]
abbrev dktX8_repeat_1 : List UInt8 := dkwX8_repeat_1 ++ dktX8_repeat_2
def dkwX8_repeat_0 : List UInt8 := [187, 0, 167, 89, 42, 4, 16, 20, 182, 0, 109, 183, 0, 169, 77, 42, 42, 16, 40, 182, 0, 98, 4]
abbrev dktX8_repeat_0 : List UInt8 := dkwX8_repeat_0 ++ dktX8_repeat_1
theorem dksX8_repeat_0 : cX8_repeat.data.toList.drop 0 = dktX8_repeat_0 := by decide +kernel
theorem dksX8_repeat_1 : cX8_repeat.data.toList.drop 23 = dktX8_repeat_1 := dk_seg dksX8_repeat_0 23 rfl rfl
theorem dksX8_repeat_2 : cX8_repeat.data.toList.drop 46 = dktX8_repeat_2 := dk_seg dksX8_repeat_1 23 rfl rfl
theorem dksX8_repeat_3 : cX8_repeat.data.toList.drop 69 = dktX8_repeat_3 := dk_seg dksX8_repeat_2 23 rfl rfl
theorem dX8_repeat_0 : decode cX8_repeat 0 = .ok (.new 167, 3) := dk_187 0 167 (dk_at dksX8_repeat_0 0 rfl rfl)
theorem dX8_repeat_3 : decode cX8_repeat 3 = .ok (.dup, 1) := dk_89 (dk_at dksX8_repeat_0 3 rfl rfl)
theorem dX8_repeat_4 : decode cX8_repeat 4 = .ok (.aload_n 0, 1) := dk_42 (dk_at dksX8_repeat_0 4 rfl rfl)
theorem dX8_repeat_5 : decode cX8_repeat 5 = .ok (.iconst 1, 1) := dk_4 (dk_at dksX8_repeat_0 5 rfl rfl)
theorem dX8_repeat_6 : decode cX8_repeat 6 = .ok (.bipush 20, 2) := dk_16 20 (dk_at dksX8_repeat_0 6 rfl rfl)
theorem dX8_repeat_8 : decode cX8_repeat 8 = .ok (.invokevirtual 109, 3) := dk_182 0 109 (dk_at dksX8_repeat_0 8 rfl rfl)
theorem dX8_repeat_11 : decode cX8_repeat 11 = .ok (.invokespecial 169, 3) := dk_183 0 169 (dk_at dksX8_repeat_0 11 rfl rfl)
theorem dX8_repeat_14 : decode cX8_repeat 14 = .ok (.astore_n 2, 1) := dk_77 (dk_at dksX8_repeat_0 14 rfl rfl)
theorem dX8_repeat_15 : decode cX8_repeat 15 = .ok (.aload_n 0, 1) := dk_42 (dk_at dksX8_repeat_0 15 rfl rfl)
theorem dX8_repeat_16 : decode cX8_repeat 16 = .ok (.aload_n 0, 1) := dk_42 (dk_at dksX8_repeat_0 16 rfl rfl)
theorem dX8_repeat_17 : decode cX8_repeat 17 = .ok (.bipush 40, 2) := dk_16 40 (dk_at dksX8_repeat_0 17 rfl rfl)
theorem dX8_repeat_19 : decode cX8_repeat 19 = .ok (.invokevirtual 98, 3) := dk_182 0 98 (dk_at dksX8_repeat_0 19 rfl rfl)
theorem dX8_repeat_22 : decode cX8_repeat 22 = .ok (.iconst 1, 1) := dk_4 (dk_at dksX8_repeat_0 22 rfl rfl)
theorem dX8_repeat_23 : decode cX8_repeat 23 = .ok (.invokevirtual 102, 3) := dk_182 0 102 (dk_at dksX8_repeat_1 0 rfl rfl)
theorem dX8_repeat_26 : decode cX8_repeat 26 = .ok (.aload_n 0, 1) := dk_42 (dk_at dksX8_repeat_1 3 rfl rfl)
theorem dX8_repeat_27 : decode cX8_repeat 27 = .ok (.iload_n 1, 1) := dk_27 (dk_at dksX8_repeat_1 4 rfl rfl)
theorem dX8_repeat_28 : decode cX8_repeat 28 = .ok (.iconst 2, 1) := dk_5 (dk_at dksX8_repeat_1 5 rfl rfl)
theorem dX8_repeat_29 : decode cX8_repeat 29 = .ok (.if_icmp .ge 7, 3) := dk_162 0 7 (dk_at dksX8_repeat_1 6 rfl rfl)
theorem dX8_repeat_32 : decode cX8_repeat 32 = .ok (.iconst 1, 1) := dk_4 (dk_at dksX8_repeat_1 9 rfl rfl)
theorem dX8_repeat_33 : decode cX8_repeat 33 = .ok (.goto 4, 3) := dk_167 0 4 (dk_at dksX8_repeat_1 10 rfl rfl)
theorem dX8_repeat_36 : decode cX8_repeat 36 = .ok (.iconst 0, 1) := dk_3 (dk_at dksX8_repeat_1 13 rfl rfl)
theorem dX8_repeat_37 : decode cX8_repeat 37 = .ok (.iconst 4, 1) := dk_7 (dk_at dksX8_repeat_1 14 rfl rfl)
theorem dX8_repeat_38 : decode cX8_repeat 38 = .ok (.invokevirtual 102, 3) := dk_182 0 102 (dk_at dksX8_repeat_1 15 rfl rfl)
theorem dX8_repeat_41 : decode cX8_repeat 41 = .ok (.aload_n 0, 1) := dk_42 (dk_at dksX8_repeat_1 18 rfl rfl)
theorem dX8_repeat_42 : decode cX8_repeat 42 = .ok (.invokevirtual 37, 3) := dk_182 0 37 (dk_at dksX8_repeat_1 19 rfl rfl)
theorem dX8_repeat_45 : decode cX8_repeat 45 = .ok (.aload_n 0, 1) := dk_42 (dk_at dksX8_repeat_1 22 rfl rfl)
theorem dX8_repeat_46 : decode cX8_repeat 46 = .ok (.bipush 41, 2) := dk_16 41 (dk_at dksX8_repeat_2 0 rfl rfl)
theorem dX8_repeat_48 : decode cX8_repeat 48 = .ok (.invokevirtual 98, 3) := dk_182 0 98 (dk_at dksX8_repeat_2 2 rfl rfl)
theorem dX8_repeat_51 : decode cX8_repeat 51 = .ok (.ifCond .ne 21, 3) := dk_154 0 21 (dk_at dksX8_repeat_2 5 rfl rfl)
theorem dX8_repeat_54 : decode cX8_repeat 54 = .ok (.aload_n 2, 1) := dk_44 (dk_at dksX8_repeat_2 8 rfl rfl)
theorem dX8_repeat_55 : decode cX8_repeat 55 = .ok (.getfield 171, 3) := dk_180 0 171 (dk_at dksX8_repeat_2 9 rfl rfl)
theorem dX8_repeat_58 : decode cX8_repeat 58 = .ok (.aload_n 0, 1) := dk_42 (dk_at dksX8_repeat_2 12 rfl rfl)
theorem dX8_repeat_59 : decode cX8_repeat 59 = .ok (.iload_n 1, 1) := dk_27 (dk_at dksX8_repeat_2 13 rfl rfl)
theorem dX8_repeat_60 : decode cX8_repeat 60 = .ok (.iconst 1, 1) := dk_4 (dk_at dksX8_repeat_2 14 rfl rfl)
theorem dX8_repeat_61 : decode cX8_repeat 61 = .ok (.iadd, 1) := dk_96 (dk_at dksX8_repeat_2 15 rfl rfl)
theorem dX8_repeat_62 : decode cX8_repeat 62 = .ok (.invokevirtual 174, 3) := dk_182 0 174 (dk_at dksX8_repeat_2 16 rfl rfl)
theorem dX8_repeat_65 : decode cX8_repeat 65 = .ok (.invokevirtual 178, 3) := dk_182 0 178 (dk_at dksX8_repeat_2 19 rfl rfl)
theorem dX8_repeat_68 : decode cX8_repeat 68 = .ok (.pop, 1) := dk_87 (dk_at dksX8_repeat_2 22 rfl rfl)
theorem dX8_repeat_69 : decode cX8_repeat 69 = .ok (.goto (-24), 3) := dk_167 255 232 (dk_at dksX8_repeat_3 0 rfl rfl)
theorem dX8_repeat_72 : decode cX8_repeat 72 = .ok (.aload_n 0, 1) := dk_42 (dk_at dksX8_repeat_3 3 rfl rfl)
theorem dX8_repeat_73 : decode cX8_repeat 73 = .ok (.invokevirtual 37, 3) := dk_182 0 37 (dk_at dksX8_repeat_3 4 rfl rfl)
theorem dX8_repeat_76 : decode cX8_repeat 76 = .ok (.aload_n 2, 1) := dk_44 (dk_at dksX8_repeat_3 7 rfl rfl)
theorem dX8_repeat_77 : decode cX8_repeat 77 = .ok (.areturn, 1) := dk_176 (dk_at dksX8_repeat_3 8 rfl rfl)
abbrev iX8_repeat : xM := (yX8_repeat, cX8_repeat, 3, (some (.object "FiddleRow$Repeat")), [])
theorem mX8_repeat : xOkM iX8_repeat := ⟨by decide +kernel, by decide, q2208, q176⟩
abbrev cX8_command : ByteArray := prog_8_method_20_code
def yX8_command : MethodName := ⟨RX8, "command", "(Ljava/lang/String;)LFiddleRow$Command;"⟩
def dkwX8_command_13 : List UInt8 := [21, 6, 21, 7, 183, 0, 226, 176]
abbrev dktX8_command_13 : List UInt8 := dkwX8_command_13 ++ []
def dkwX8_command_12 : List UInt8 := [16, 48, 182, 0, 109, 167, 0, 4, 3, 54, 7, 187, 0, 224, 89, 42, 180, 0, 3, 43, 45, 25, 4]
abbrev dktX8_command_12 : List UInt8 := dkwX8_command_12 ++ dktX8_command_13
def dkwX8_command_11 : List UInt8 := [42, 4, 17, 1, 44, 182, 0, 158, 167, 0, 24, 42, 3, 16, 40, 182, 0, 109, 167, 0, 14, 42, 4]
abbrev dktX8_command_11 : List UInt8 := dkwX8_command_11 ++ dktX8_command_12
def dkwX8_command_10 : List UInt8 := [170, 0, 0, 0, 56, 0, 0, 0, 0, 0, 0, 0, 2, 0, 0, 0, 25, 0, 0, 0, 36, 0, 0, 0, 46]
abbrev dktX8_command_10 : List UInt8 := dkwX8_command_10 ++ dktX8_command_11
def dkwX8_command_9 : List UInt8 := [153, 0, 22, 4, 54, 9, 167, 0, 16, 25, 8, 18, 200, 182, 0, 92, 153, 0, 6, 5, 54, 9, 21, 9]
abbrev dktX8_command_9 : List UInt8 := dkwX8_command_9 ++ dktX8_command_10
def dkwX8_command_8 : List UInt8 := [25, 8, 18, 186, 182, 0, 92, 153, 0, 38, 3, 54, 9, 167, 0, 32, 25, 8, 18, 198, 182, 0, 92]
abbrev dktX8_command_8 : List UInt8 := dkwX8_command_8 ++ dktX8_command_9
def dkwX8_command_7 : List UInt8 := [171, 0, 0, 0, 78, 0, 0, 0, 3, 203, 126, 113, 145, 0, 0, 0, 49, 0, 54, 128, 125, 0, 0, 0, 33, 5, 237, 199, 15, 0, 0, 0, 65]
abbrev dktX8_command_7 : List UInt8 := dkwX8_command_7 ++ dktX8_command_8
def dkwX8_command_6 : List UInt8 := [2, 54, 9, 25, 8, 182, 0, 181]
abbrev dktX8_command_6 : List UInt8 := dkwX8_command_6 ++ dktX8_command_7
def dkwX8_command_5 : List UInt8 := [167, 0, 4, 3, 54, 5, 21, 5, 153, 0, 10, 42, 182, 0, 221, 167, 0, 4, 3, 54, 6, 43, 58, 8]
abbrev dktX8_command_5 : List UInt8 := dkwX8_command_5 ++ dktX8_command_6
def dkwX8_command_4 : List UInt8 := [154, 0, 21, 43, 18, 188, 182, 0, 92, 154, 0, 12, 43, 18, 190, 182, 0, 92, 153, 0, 7, 4]
abbrev dktX8_command_4 : List UInt8 := dkwX8_command_4 ++ dktX8_command_5
def dkwX8_command_3 : List UInt8 := [154, 0, 7, 4, 167, 0, 4, 3, 6, 182, 0, 102, 42, 182, 0, 218, 58, 4, 43, 18, 186, 182, 0, 92]
abbrev dktX8_command_3 : List UInt8 := dkwX8_command_3 ++ dktX8_command_4
def dkwX8_command_2 : List UInt8 := [18, 22, 58, 4, 43, 18, 192, 182, 0, 92, 153, 0, 30, 42, 42, 182, 0, 115, 45, 182, 0, 92]
abbrev dktX8_command_2 : List UInt8 := dkwX8_command_2 ++ dktX8_command_3
def dkwX8_command_1 : List UInt8 := [154, 0, 7, 4, 167, 0, 4, 3, 61, 28, 153, 0, 10, 42, 182, 0, 218, 167, 0, 5, 18, 22, 78]
abbrev dktX8_command_1 : List UInt8 := dkwX8_command_1 ++ dktX8_command_2
def dkwX8_command_0 : List UInt8 := [43, 18, 184, 182, 0, 92, 154, 0, 25, 43, 18, 198, 182, 0, 92, 154, 0, 16, 43, 18, 200, 182, 0, 92]
abbrev dktX8_command_0 : List UInt8 := dkwX8_command_0 ++ dktX8_command_1
theorem dksX8_command_0 : cX8_command.data.toList.drop 0 = dktX8_command_0 := by decide +kernel
theorem dksX8_command_1 : cX8_command.data.toList.drop 24 = dktX8_command_1 := dk_seg dksX8_command_0 24 rfl rfl
theorem dksX8_command_2 : cX8_command.data.toList.drop 47 = dktX8_command_2 := dk_seg dksX8_command_1 23 rfl rfl
theorem dksX8_command_3 : cX8_command.data.toList.drop 69 = dktX8_command_3 := dk_seg dksX8_command_2 22 rfl rfl
theorem dksX8_command_4 : cX8_command.data.toList.drop 93 = dktX8_command_4 := dk_seg dksX8_command_3 24 rfl rfl
theorem dksX8_command_5 : cX8_command.data.toList.drop 115 = dktX8_command_5 := dk_seg dksX8_command_4 22 rfl rfl
theorem dksX8_command_6 : cX8_command.data.toList.drop 139 = dktX8_command_6 := dk_seg dksX8_command_5 24 rfl rfl
theorem dksX8_command_7 : cX8_command.data.toList.drop 147 = dktX8_command_7 := dk_seg dksX8_command_6 8 rfl rfl
theorem dksX8_command_8 : cX8_command.data.toList.drop 180 = dktX8_command_8 := dk_seg dksX8_command_7 33 rfl rfl
theorem dksX8_command_9 : cX8_command.data.toList.drop 203 = dktX8_command_9 := dk_seg dksX8_command_8 23 rfl rfl
theorem dksX8_command_10 : cX8_command.data.toList.drop 227 = dktX8_command_10 := dk_seg dksX8_command_9 24 rfl rfl
theorem dksX8_command_11 : cX8_command.data.toList.drop 252 = dktX8_command_11 := dk_seg dksX8_command_10 25 rfl rfl
theorem dksX8_command_12 : cX8_command.data.toList.drop 275 = dktX8_command_12 := dk_seg dksX8_command_11 23 rfl rfl
theorem dksX8_command_13 : cX8_command.data.toList.drop 298 = dktX8_command_13 := dk_seg dksX8_command_12 23 rfl rfl
theorem dX8_command_0 : decode cX8_command 0 = .ok (.aload_n 1, 1) := dk_43 (dk_at dksX8_command_0 0 rfl rfl)
theorem dX8_command_1 : decode cX8_command 1 = .ok (.ldc 184, 2) := dk_18 184 (dk_at dksX8_command_0 1 rfl rfl)
theorem dX8_command_3 : decode cX8_command 3 = .ok (.invokevirtual 92, 3) := dk_182 0 92 (dk_at dksX8_command_0 3 rfl rfl)
theorem dX8_command_6 : decode cX8_command 6 = .ok (.ifCond .ne 25, 3) := dk_154 0 25 (dk_at dksX8_command_0 6 rfl rfl)
theorem dX8_command_9 : decode cX8_command 9 = .ok (.aload_n 1, 1) := dk_43 (dk_at dksX8_command_0 9 rfl rfl)
theorem dX8_command_10 : decode cX8_command 10 = .ok (.ldc 198, 2) := dk_18 198 (dk_at dksX8_command_0 10 rfl rfl)
theorem dX8_command_12 : decode cX8_command 12 = .ok (.invokevirtual 92, 3) := dk_182 0 92 (dk_at dksX8_command_0 12 rfl rfl)
theorem dX8_command_15 : decode cX8_command 15 = .ok (.ifCond .ne 16, 3) := dk_154 0 16 (dk_at dksX8_command_0 15 rfl rfl)
theorem dX8_command_18 : decode cX8_command 18 = .ok (.aload_n 1, 1) := dk_43 (dk_at dksX8_command_0 18 rfl rfl)
theorem dX8_command_19 : decode cX8_command 19 = .ok (.ldc 200, 2) := dk_18 200 (dk_at dksX8_command_0 19 rfl rfl)
theorem dX8_command_21 : decode cX8_command 21 = .ok (.invokevirtual 92, 3) := dk_182 0 92 (dk_at dksX8_command_0 21 rfl rfl)
theorem dX8_command_24 : decode cX8_command 24 = .ok (.ifCond .ne 7, 3) := dk_154 0 7 (dk_at dksX8_command_1 0 rfl rfl)
theorem dX8_command_27 : decode cX8_command 27 = .ok (.iconst 1, 1) := dk_4 (dk_at dksX8_command_1 3 rfl rfl)
theorem dX8_command_28 : decode cX8_command 28 = .ok (.goto 4, 3) := dk_167 0 4 (dk_at dksX8_command_1 4 rfl rfl)
theorem dX8_command_31 : decode cX8_command 31 = .ok (.iconst 0, 1) := dk_3 (dk_at dksX8_command_1 7 rfl rfl)
theorem dX8_command_32 : decode cX8_command 32 = .ok (.istore_n 2, 1) := dk_61 (dk_at dksX8_command_1 8 rfl rfl)
theorem dX8_command_33 : decode cX8_command 33 = .ok (.iload_n 2, 1) := dk_28 (dk_at dksX8_command_1 9 rfl rfl)
theorem dX8_command_34 : decode cX8_command 34 = .ok (.ifCond .eq 10, 3) := dk_153 0 10 (dk_at dksX8_command_1 10 rfl rfl)
theorem dX8_command_37 : decode cX8_command 37 = .ok (.aload_n 0, 1) := dk_42 (dk_at dksX8_command_1 13 rfl rfl)
theorem dX8_command_38 : decode cX8_command 38 = .ok (.invokevirtual 218, 3) := dk_182 0 218 (dk_at dksX8_command_1 14 rfl rfl)
theorem dX8_command_41 : decode cX8_command 41 = .ok (.goto 5, 3) := dk_167 0 5 (dk_at dksX8_command_1 17 rfl rfl)
theorem dX8_command_44 : decode cX8_command 44 = .ok (.ldc 22, 2) := dk_18 22 (dk_at dksX8_command_1 20 rfl rfl)
theorem dX8_command_46 : decode cX8_command 46 = .ok (.astore_n 3, 1) := dk_78 (dk_at dksX8_command_1 22 rfl rfl)
theorem dX8_command_47 : decode cX8_command 47 = .ok (.ldc 22, 2) := dk_18 22 (dk_at dksX8_command_2 0 rfl rfl)
theorem dX8_command_49 : decode cX8_command 49 = .ok (.astore 4, 2) := dk_58 4 (dk_at dksX8_command_2 2 rfl rfl)
theorem dX8_command_51 : decode cX8_command 51 = .ok (.aload_n 1, 1) := dk_43 (dk_at dksX8_command_2 4 rfl rfl)
theorem dX8_command_52 : decode cX8_command 52 = .ok (.ldc 192, 2) := dk_18 192 (dk_at dksX8_command_2 5 rfl rfl)
theorem dX8_command_54 : decode cX8_command 54 = .ok (.invokevirtual 92, 3) := dk_182 0 92 (dk_at dksX8_command_2 7 rfl rfl)
theorem dX8_command_57 : decode cX8_command 57 = .ok (.ifCond .eq 30, 3) := dk_153 0 30 (dk_at dksX8_command_2 10 rfl rfl)
theorem dX8_command_60 : decode cX8_command 60 = .ok (.aload_n 0, 1) := dk_42 (dk_at dksX8_command_2 13 rfl rfl)
theorem dX8_command_61 : decode cX8_command 61 = .ok (.aload_n 0, 1) := dk_42 (dk_at dksX8_command_2 14 rfl rfl)
theorem dX8_command_62 : decode cX8_command 62 = .ok (.invokevirtual 115, 3) := dk_182 0 115 (dk_at dksX8_command_2 15 rfl rfl)
theorem dX8_command_65 : decode cX8_command 65 = .ok (.aload_n 3, 1) := dk_45 (dk_at dksX8_command_2 18 rfl rfl)
theorem dX8_command_66 : decode cX8_command 66 = .ok (.invokevirtual 92, 3) := dk_182 0 92 (dk_at dksX8_command_2 19 rfl rfl)
theorem dX8_command_69 : decode cX8_command 69 = .ok (.ifCond .ne 7, 3) := dk_154 0 7 (dk_at dksX8_command_3 0 rfl rfl)
theorem dX8_command_72 : decode cX8_command 72 = .ok (.iconst 1, 1) := dk_4 (dk_at dksX8_command_3 3 rfl rfl)
theorem dX8_command_73 : decode cX8_command 73 = .ok (.goto 4, 3) := dk_167 0 4 (dk_at dksX8_command_3 4 rfl rfl)
theorem dX8_command_76 : decode cX8_command 76 = .ok (.iconst 0, 1) := dk_3 (dk_at dksX8_command_3 7 rfl rfl)
theorem dX8_command_77 : decode cX8_command 77 = .ok (.iconst 3, 1) := dk_6 (dk_at dksX8_command_3 8 rfl rfl)
theorem dX8_command_78 : decode cX8_command 78 = .ok (.invokevirtual 102, 3) := dk_182 0 102 (dk_at dksX8_command_3 9 rfl rfl)
theorem dX8_command_81 : decode cX8_command 81 = .ok (.aload_n 0, 1) := dk_42 (dk_at dksX8_command_3 12 rfl rfl)
theorem dX8_command_82 : decode cX8_command 82 = .ok (.invokevirtual 218, 3) := dk_182 0 218 (dk_at dksX8_command_3 13 rfl rfl)
theorem dX8_command_85 : decode cX8_command 85 = .ok (.astore 4, 2) := dk_58 4 (dk_at dksX8_command_3 16 rfl rfl)
theorem dX8_command_87 : decode cX8_command 87 = .ok (.aload_n 1, 1) := dk_43 (dk_at dksX8_command_3 18 rfl rfl)
theorem dX8_command_88 : decode cX8_command 88 = .ok (.ldc 186, 2) := dk_18 186 (dk_at dksX8_command_3 19 rfl rfl)
theorem dX8_command_90 : decode cX8_command 90 = .ok (.invokevirtual 92, 3) := dk_182 0 92 (dk_at dksX8_command_3 21 rfl rfl)
theorem dX8_command_93 : decode cX8_command 93 = .ok (.ifCond .ne 21, 3) := dk_154 0 21 (dk_at dksX8_command_4 0 rfl rfl)
theorem dX8_command_96 : decode cX8_command 96 = .ok (.aload_n 1, 1) := dk_43 (dk_at dksX8_command_4 3 rfl rfl)
theorem dX8_command_97 : decode cX8_command 97 = .ok (.ldc 188, 2) := dk_18 188 (dk_at dksX8_command_4 4 rfl rfl)
theorem dX8_command_99 : decode cX8_command 99 = .ok (.invokevirtual 92, 3) := dk_182 0 92 (dk_at dksX8_command_4 6 rfl rfl)
theorem dX8_command_102 : decode cX8_command 102 = .ok (.ifCond .ne 12, 3) := dk_154 0 12 (dk_at dksX8_command_4 9 rfl rfl)
theorem dX8_command_105 : decode cX8_command 105 = .ok (.aload_n 1, 1) := dk_43 (dk_at dksX8_command_4 12 rfl rfl)
theorem dX8_command_106 : decode cX8_command 106 = .ok (.ldc 190, 2) := dk_18 190 (dk_at dksX8_command_4 13 rfl rfl)
theorem dX8_command_108 : decode cX8_command 108 = .ok (.invokevirtual 92, 3) := dk_182 0 92 (dk_at dksX8_command_4 15 rfl rfl)
theorem dX8_command_111 : decode cX8_command 111 = .ok (.ifCond .eq 7, 3) := dk_153 0 7 (dk_at dksX8_command_4 18 rfl rfl)
theorem dX8_command_114 : decode cX8_command 114 = .ok (.iconst 1, 1) := dk_4 (dk_at dksX8_command_4 21 rfl rfl)
theorem dX8_command_115 : decode cX8_command 115 = .ok (.goto 4, 3) := dk_167 0 4 (dk_at dksX8_command_5 0 rfl rfl)
theorem dX8_command_118 : decode cX8_command 118 = .ok (.iconst 0, 1) := dk_3 (dk_at dksX8_command_5 3 rfl rfl)
theorem dX8_command_119 : decode cX8_command 119 = .ok (.istore 5, 2) := dk_54 5 (dk_at dksX8_command_5 4 rfl rfl)
theorem dX8_command_121 : decode cX8_command 121 = .ok (.iload 5, 2) := dk_21 5 (dk_at dksX8_command_5 6 rfl rfl)
theorem dX8_command_123 : decode cX8_command 123 = .ok (.ifCond .eq 10, 3) := dk_153 0 10 (dk_at dksX8_command_5 8 rfl rfl)
theorem dX8_command_126 : decode cX8_command 126 = .ok (.aload_n 0, 1) := dk_42 (dk_at dksX8_command_5 11 rfl rfl)
theorem dX8_command_127 : decode cX8_command 127 = .ok (.invokevirtual 221, 3) := dk_182 0 221 (dk_at dksX8_command_5 12 rfl rfl)
theorem dX8_command_130 : decode cX8_command 130 = .ok (.goto 4, 3) := dk_167 0 4 (dk_at dksX8_command_5 15 rfl rfl)
theorem dX8_command_133 : decode cX8_command 133 = .ok (.iconst 0, 1) := dk_3 (dk_at dksX8_command_5 18 rfl rfl)
theorem dX8_command_134 : decode cX8_command 134 = .ok (.istore 6, 2) := dk_54 6 (dk_at dksX8_command_5 19 rfl rfl)
theorem dX8_command_136 : decode cX8_command 136 = .ok (.aload_n 1, 1) := dk_43 (dk_at dksX8_command_5 21 rfl rfl)
theorem dX8_command_137 : decode cX8_command 137 = .ok (.astore 8, 2) := dk_58 8 (dk_at dksX8_command_5 22 rfl rfl)
theorem dX8_command_139 : decode cX8_command 139 = .ok (.iconst (-1), 1) := dk_2 (dk_at dksX8_command_6 0 rfl rfl)
theorem dX8_command_140 : decode cX8_command 140 = .ok (.istore 9, 2) := dk_54 9 (dk_at dksX8_command_6 1 rfl rfl)
theorem dX8_command_142 : decode cX8_command 142 = .ok (.aload 8, 2) := dk_25 8 (dk_at dksX8_command_6 3 rfl rfl)
theorem dX8_command_144 : decode cX8_command 144 = .ok (.invokevirtual 181, 3) := dk_182 0 181 (dk_at dksX8_command_6 5 rfl rfl)
theorem dX8_command_147 : decode cX8_command 147 = .ok (.lookupswitch 78 #[(-880905839, 49), (3571837, 33), (99469071, 65)], 33) := by decide +kernel
theorem dX8_command_180 : decode cX8_command 180 = .ok (.aload 8, 2) := dk_25 8 (dk_at dksX8_command_8 0 rfl rfl)
theorem dX8_command_182 : decode cX8_command 182 = .ok (.ldc 186, 2) := dk_18 186 (dk_at dksX8_command_8 2 rfl rfl)
theorem dX8_command_184 : decode cX8_command 184 = .ok (.invokevirtual 92, 3) := dk_182 0 92 (dk_at dksX8_command_8 4 rfl rfl)
theorem dX8_command_187 : decode cX8_command 187 = .ok (.ifCond .eq 38, 3) := dk_153 0 38 (dk_at dksX8_command_8 7 rfl rfl)
theorem dX8_command_190 : decode cX8_command 190 = .ok (.iconst 0, 1) := dk_3 (dk_at dksX8_command_8 10 rfl rfl)
theorem dX8_command_191 : decode cX8_command 191 = .ok (.istore 9, 2) := dk_54 9 (dk_at dksX8_command_8 11 rfl rfl)
theorem dX8_command_193 : decode cX8_command 193 = .ok (.goto 32, 3) := dk_167 0 32 (dk_at dksX8_command_8 13 rfl rfl)
theorem dX8_command_196 : decode cX8_command 196 = .ok (.aload 8, 2) := dk_25 8 (dk_at dksX8_command_8 16 rfl rfl)
theorem dX8_command_198 : decode cX8_command 198 = .ok (.ldc 198, 2) := dk_18 198 (dk_at dksX8_command_8 18 rfl rfl)
theorem dX8_command_200 : decode cX8_command 200 = .ok (.invokevirtual 92, 3) := dk_182 0 92 (dk_at dksX8_command_8 20 rfl rfl)
theorem dX8_command_203 : decode cX8_command 203 = .ok (.ifCond .eq 22, 3) := dk_153 0 22 (dk_at dksX8_command_9 0 rfl rfl)
theorem dX8_command_206 : decode cX8_command 206 = .ok (.iconst 1, 1) := dk_4 (dk_at dksX8_command_9 3 rfl rfl)
theorem dX8_command_207 : decode cX8_command 207 = .ok (.istore 9, 2) := dk_54 9 (dk_at dksX8_command_9 4 rfl rfl)
theorem dX8_command_209 : decode cX8_command 209 = .ok (.goto 16, 3) := dk_167 0 16 (dk_at dksX8_command_9 6 rfl rfl)
theorem dX8_command_212 : decode cX8_command 212 = .ok (.aload 8, 2) := dk_25 8 (dk_at dksX8_command_9 9 rfl rfl)
theorem dX8_command_214 : decode cX8_command 214 = .ok (.ldc 200, 2) := dk_18 200 (dk_at dksX8_command_9 11 rfl rfl)
theorem dX8_command_216 : decode cX8_command 216 = .ok (.invokevirtual 92, 3) := dk_182 0 92 (dk_at dksX8_command_9 13 rfl rfl)
theorem dX8_command_219 : decode cX8_command 219 = .ok (.ifCond .eq 6, 3) := dk_153 0 6 (dk_at dksX8_command_9 16 rfl rfl)
theorem dX8_command_222 : decode cX8_command 222 = .ok (.iconst 2, 1) := dk_5 (dk_at dksX8_command_9 19 rfl rfl)
theorem dX8_command_223 : decode cX8_command 223 = .ok (.istore 9, 2) := dk_54 9 (dk_at dksX8_command_9 20 rfl rfl)
theorem dX8_command_225 : decode cX8_command 225 = .ok (.iload 9, 2) := dk_21 9 (dk_at dksX8_command_9 22 rfl rfl)
theorem dX8_command_227 : decode cX8_command 227 = .ok (.tableswitch 56 0 2 #[25, 36, 46], 25) := by decide +kernel
theorem dX8_command_252 : decode cX8_command 252 = .ok (.aload_n 0, 1) := dk_42 (dk_at dksX8_command_11 0 rfl rfl)
theorem dX8_command_253 : decode cX8_command 253 = .ok (.iconst 1, 1) := dk_4 (dk_at dksX8_command_11 1 rfl rfl)
theorem dX8_command_254 : decode cX8_command 254 = .ok (.sipush 300, 3) := dk_17 1 44 (dk_at dksX8_command_11 2 rfl rfl)
theorem dX8_command_257 : decode cX8_command 257 = .ok (.invokevirtual 158, 3) := dk_182 0 158 (dk_at dksX8_command_11 5 rfl rfl)
theorem dX8_command_260 : decode cX8_command 260 = .ok (.goto 24, 3) := dk_167 0 24 (dk_at dksX8_command_11 8 rfl rfl)
theorem dX8_command_263 : decode cX8_command 263 = .ok (.aload_n 0, 1) := dk_42 (dk_at dksX8_command_11 11 rfl rfl)
theorem dX8_command_264 : decode cX8_command 264 = .ok (.iconst 0, 1) := dk_3 (dk_at dksX8_command_11 12 rfl rfl)
theorem dX8_command_265 : decode cX8_command 265 = .ok (.bipush 40, 2) := dk_16 40 (dk_at dksX8_command_11 13 rfl rfl)
theorem dX8_command_267 : decode cX8_command 267 = .ok (.invokevirtual 109, 3) := dk_182 0 109 (dk_at dksX8_command_11 15 rfl rfl)
theorem dX8_command_270 : decode cX8_command 270 = .ok (.goto 14, 3) := dk_167 0 14 (dk_at dksX8_command_11 18 rfl rfl)
theorem dX8_command_273 : decode cX8_command 273 = .ok (.aload_n 0, 1) := dk_42 (dk_at dksX8_command_11 21 rfl rfl)
theorem dX8_command_274 : decode cX8_command 274 = .ok (.iconst 1, 1) := dk_4 (dk_at dksX8_command_11 22 rfl rfl)
theorem dX8_command_275 : decode cX8_command 275 = .ok (.bipush 48, 2) := dk_16 48 (dk_at dksX8_command_12 0 rfl rfl)
theorem dX8_command_277 : decode cX8_command 277 = .ok (.invokevirtual 109, 3) := dk_182 0 109 (dk_at dksX8_command_12 2 rfl rfl)
theorem dX8_command_280 : decode cX8_command 280 = .ok (.goto 4, 3) := dk_167 0 4 (dk_at dksX8_command_12 5 rfl rfl)
theorem dX8_command_283 : decode cX8_command 283 = .ok (.iconst 0, 1) := dk_3 (dk_at dksX8_command_12 8 rfl rfl)
theorem dX8_command_284 : decode cX8_command 284 = .ok (.istore 7, 2) := dk_54 7 (dk_at dksX8_command_12 9 rfl rfl)
theorem dX8_command_286 : decode cX8_command 286 = .ok (.new 224, 3) := dk_187 0 224 (dk_at dksX8_command_12 11 rfl rfl)
theorem dX8_command_289 : decode cX8_command 289 = .ok (.dup, 1) := dk_89 (dk_at dksX8_command_12 14 rfl rfl)
theorem dX8_command_290 : decode cX8_command 290 = .ok (.aload_n 0, 1) := dk_42 (dk_at dksX8_command_12 15 rfl rfl)
theorem dX8_command_291 : decode cX8_command 291 = .ok (.getfield 3, 3) := dk_180 0 3 (dk_at dksX8_command_12 16 rfl rfl)
theorem dX8_command_294 : decode cX8_command 294 = .ok (.aload_n 1, 1) := dk_43 (dk_at dksX8_command_12 19 rfl rfl)
theorem dX8_command_295 : decode cX8_command 295 = .ok (.aload_n 3, 1) := dk_45 (dk_at dksX8_command_12 20 rfl rfl)
theorem dX8_command_296 : decode cX8_command 296 = .ok (.aload 4, 2) := dk_25 4 (dk_at dksX8_command_12 21 rfl rfl)
theorem dX8_command_298 : decode cX8_command 298 = .ok (.iload 6, 2) := dk_21 6 (dk_at dksX8_command_13 0 rfl rfl)
theorem dX8_command_300 : decode cX8_command 300 = .ok (.iload 7, 2) := dk_21 7 (dk_at dksX8_command_13 2 rfl rfl)
theorem dX8_command_302 : decode cX8_command 302 = .ok (.invokespecial 226, 3) := dk_183 0 226 (dk_at dksX8_command_13 4 rfl rfl)
theorem dX8_command_305 : decode cX8_command 305 = .ok (.areturn, 1) := dk_176 (dk_at dksX8_command_13 7 rfl rfl)
abbrev iX8_command : xM := (yX8_command, cX8_command, 10, (some (.object "FiddleRow$Command")), [])
theorem mX8_command : xOkM iX8_command := ⟨by decide +kernel, by decide, q2213, q176⟩
abbrev cX8_name : ByteArray := prog_8_method_12_code
def yX8_name : MethodName := ⟨RX8, "name", "()Ljava/lang/String;"⟩
def dkwX8_name_0 : List UInt8 := [42, 182, 0, 115, 76, 42, 182, 0, 37, 43, 176]
abbrev dktX8_name_0 : List UInt8 := dkwX8_name_0 ++ []
theorem dksX8_name_0 : cX8_name.data.toList.drop 0 = dktX8_name_0 := by decide +kernel
theorem dX8_name_0 : decode cX8_name 0 = .ok (.aload_n 0, 1) := dk_42 (dk_at dksX8_name_0 0 rfl rfl)
theorem dX8_name_1 : decode cX8_name 1 = .ok (.invokevirtual 115, 3) := dk_182 0 115 (dk_at dksX8_name_0 1 rfl rfl)
theorem dX8_name_4 : decode cX8_name 4 = .ok (.astore_n 1, 1) := dk_76 (dk_at dksX8_name_0 4 rfl rfl)
theorem dX8_name_5 : decode cX8_name 5 = .ok (.aload_n 0, 1) := dk_42 (dk_at dksX8_name_0 5 rfl rfl)
theorem dX8_name_6 : decode cX8_name 6 = .ok (.invokevirtual 37, 3) := dk_182 0 37 (dk_at dksX8_name_0 6 rfl rfl)
theorem dX8_name_9 : decode cX8_name 9 = .ok (.aload_n 1, 1) := dk_43 (dk_at dksX8_name_0 9 rfl rfl)
theorem dX8_name_10 : decode cX8_name 10 = .ok (.areturn, 1) := dk_176 (dk_at dksX8_name_0 10 rfl rfl)
abbrev iX8_name : xM := (yX8_name, cX8_name, 2, (some (.object "java/lang/String")), [])
theorem mX8_name : xOkM iX8_name := ⟨by decide +kernel, by decide, q2217, q176⟩
abbrev cX8_string : ByteArray := prog_8_method_13_code
def yX8_string : MethodName := ⟨RX8, "string", "()I"⟩
def dkwX8_string_1 : List UInt8 := [2, 159, 0, 7, 4, 167, 0, 4, 3, 4, 182, 0, 102, 42, 182, 0, 37, 27, 172]
abbrev dktX8_string_1 : List UInt8 := dkwX8_string_1 ++ []
def dkwX8_string_0 : List UInt8 := [42, 180, 0, 34, 178, 0, 69, 166, 0, 13, 42, 180, 0, 24, 184, 0, 118, 167, 0, 4, 2, 60, 42, 27]
abbrev dktX8_string_0 : List UInt8 := dkwX8_string_0 ++ dktX8_string_1
theorem dksX8_string_0 : cX8_string.data.toList.drop 0 = dktX8_string_0 := by decide +kernel
theorem dksX8_string_1 : cX8_string.data.toList.drop 24 = dktX8_string_1 := dk_seg dksX8_string_0 24 rfl rfl
theorem dX8_string_0 : decode cX8_string 0 = .ok (.aload_n 0, 1) := dk_42 (dk_at dksX8_string_0 0 rfl rfl)
theorem dX8_string_1 : decode cX8_string 1 = .ok (.getfield 34, 3) := dk_180 0 34 (dk_at dksX8_string_0 1 rfl rfl)
theorem dX8_string_4 : decode cX8_string 4 = .ok (.getstatic 69, 3) := dk_178 0 69 (dk_at dksX8_string_0 4 rfl rfl)
theorem dX8_string_7 : decode cX8_string 7 = .ok (.if_acmp .ne 13, 3) := dk_166 0 13 (dk_at dksX8_string_0 7 rfl rfl)
theorem dX8_string_10 : decode cX8_string 10 = .ok (.aload_n 0, 1) := dk_42 (dk_at dksX8_string_0 10 rfl rfl)
theorem dX8_string_11 : decode cX8_string 11 = .ok (.getfield 24, 3) := dk_180 0 24 (dk_at dksX8_string_0 11 rfl rfl)
theorem dX8_string_14 : decode cX8_string 14 = .ok (.invokestatic 118, 3) := dk_184 0 118 (dk_at dksX8_string_0 14 rfl rfl)
theorem dX8_string_17 : decode cX8_string 17 = .ok (.goto 4, 3) := dk_167 0 4 (dk_at dksX8_string_0 17 rfl rfl)
theorem dX8_string_20 : decode cX8_string 20 = .ok (.iconst (-1), 1) := dk_2 (dk_at dksX8_string_0 20 rfl rfl)
theorem dX8_string_21 : decode cX8_string 21 = .ok (.istore_n 1, 1) := dk_60 (dk_at dksX8_string_0 21 rfl rfl)
theorem dX8_string_22 : decode cX8_string 22 = .ok (.aload_n 0, 1) := dk_42 (dk_at dksX8_string_0 22 rfl rfl)
theorem dX8_string_23 : decode cX8_string 23 = .ok (.iload_n 1, 1) := dk_27 (dk_at dksX8_string_0 23 rfl rfl)
theorem dX8_string_24 : decode cX8_string 24 = .ok (.iconst (-1), 1) := dk_2 (dk_at dksX8_string_1 0 rfl rfl)
theorem dX8_string_25 : decode cX8_string 25 = .ok (.if_icmp .eq 7, 3) := dk_159 0 7 (dk_at dksX8_string_1 1 rfl rfl)
theorem dX8_string_28 : decode cX8_string 28 = .ok (.iconst 1, 1) := dk_4 (dk_at dksX8_string_1 4 rfl rfl)
theorem dX8_string_29 : decode cX8_string 29 = .ok (.goto 4, 3) := dk_167 0 4 (dk_at dksX8_string_1 5 rfl rfl)
theorem dX8_string_32 : decode cX8_string 32 = .ok (.iconst 0, 1) := dk_3 (dk_at dksX8_string_1 8 rfl rfl)
theorem dX8_string_33 : decode cX8_string 33 = .ok (.iconst 1, 1) := dk_4 (dk_at dksX8_string_1 9 rfl rfl)
theorem dX8_string_34 : decode cX8_string 34 = .ok (.invokevirtual 102, 3) := dk_182 0 102 (dk_at dksX8_string_1 10 rfl rfl)
theorem dX8_string_37 : decode cX8_string 37 = .ok (.aload_n 0, 1) := dk_42 (dk_at dksX8_string_1 13 rfl rfl)
theorem dX8_string_38 : decode cX8_string 38 = .ok (.invokevirtual 37, 3) := dk_182 0 37 (dk_at dksX8_string_1 14 rfl rfl)
theorem dX8_string_41 : decode cX8_string 41 = .ok (.iload_n 1, 1) := dk_27 (dk_at dksX8_string_1 17 rfl rfl)
theorem dX8_string_42 : decode cX8_string 42 = .ok (.ireturn, 1) := dk_172 (dk_at dksX8_string_1 18 rfl rfl)
abbrev iX8_string : xM := (yX8_string, cX8_string, 2, (some .int), [])
theorem mX8_string : xOkM iX8_string := ⟨by decide +kernel, by decide, q2221, q176⟩

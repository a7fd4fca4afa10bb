set_option maxRecDepth 100000
abbrev cX7_keepsPast : ByteArray := prog_15_method_78_code
def yX7_keepsPast : MethodName := ⟨RX7, "keepsPast", "()V"⟩
def dkwX7_keepsPast_3 : List UInt8 := [89, 180, 1, 3, 4, 96, 181, 1, 3, 177]
abbrev dktX7_keepsPast_3 : List UInt8 := dkwX7_keepsPast_3 ++ []
def dkwX7_keepsPast_2 : List UInt8 := [181, 1, 3, 42, 180, 0, 7, 3, 42, 180, 0, 16, 17, 1, 24, 42, 180, 1, 3, 104, 184, 0, 246, 42]
abbrev dktX7_keepsPast_2 : List UInt8 := dkwX7_keepsPast_2 ++ dktX7_keepsPast_3
def dkwX7_keepsPast_1 : List UInt8 := [180, 0, 16, 27, 17, 1, 24, 96, 46, 79, 132, 1, 1, 167, 255, 230, 42, 89, 180, 1, 3, 4, 100]
abbrev dktX7_keepsPast_1 : List UInt8 := dkwX7_keepsPast_1 ++ dktX7_keepsPast_2
def dkwX7_keepsPast_0 : List UInt8 := [42, 180, 1, 3, 16, 8, 160, 0, 44, 3, 60, 27, 17, 7, 168, 162, 0, 25, 42, 180, 0, 16, 27, 42]
abbrev dktX7_keepsPast_0 : List UInt8 := dkwX7_keepsPast_0 ++ dktX7_keepsPast_1
theorem dksX7_keepsPast_0 : cX7_keepsPast.data.toList.drop 0 = dktX7_keepsPast_0 := by decide +kernel
theorem dksX7_keepsPast_1 : cX7_keepsPast.data.toList.drop 24 = dktX7_keepsPast_1 := dk_seg dksX7_keepsPast_0 24 rfl rfl
theorem dksX7_keepsPast_2 : cX7_keepsPast.data.toList.drop 47 = dktX7_keepsPast_2 := dk_seg dksX7_keepsPast_1 23 rfl rfl
theorem dksX7_keepsPast_3 : cX7_keepsPast.data.toList.drop 71 = dktX7_keepsPast_3 := dk_seg dksX7_keepsPast_2 24 rfl rfl
theorem dX7_keepsPast_0 : decode cX7_keepsPast 0 = .ok (.aload_n 0, 1) := dk_42 (dk_at dksX7_keepsPast_0 0 rfl rfl)
theorem dX7_keepsPast_1 : decode cX7_keepsPast 1 = .ok (.getfield 259, 3) := dk_180 1 3 (dk_at dksX7_keepsPast_0 1 rfl rfl)
theorem dX7_keepsPast_4 : decode cX7_keepsPast 4 = .ok (.bipush 8, 2) := dk_16 8 (dk_at dksX7_keepsPast_0 4 rfl rfl)
theorem dX7_keepsPast_6 : decode cX7_keepsPast 6 = .ok (.if_icmp .ne 44, 3) := dk_160 0 44 (dk_at dksX7_keepsPast_0 6 rfl rfl)
theorem dX7_keepsPast_9 : decode cX7_keepsPast 9 = .ok (.iconst 0, 1) := dk_3 (dk_at dksX7_keepsPast_0 9 rfl rfl)
theorem dX7_keepsPast_10 : decode cX7_keepsPast 10 = .ok (.istore_n 1, 1) := dk_60 (dk_at dksX7_keepsPast_0 10 rfl rfl)
theorem dX7_keepsPast_11 : decode cX7_keepsPast 11 = .ok (.iload_n 1, 1) := dk_27 (dk_at dksX7_keepsPast_0 11 rfl rfl)
theorem dX7_keepsPast_12 : decode cX7_keepsPast 12 = .ok (.sipush 1960, 3) := dk_17 7 168 (dk_at dksX7_keepsPast_0 12 rfl rfl)
theorem dX7_keepsPast_15 : decode cX7_keepsPast 15 = .ok (.if_icmp .ge 25, 3) := dk_162 0 25 (dk_at dksX7_keepsPast_0 15 rfl rfl)
theorem dX7_keepsPast_18 : decode cX7_keepsPast 18 = .ok (.aload_n 0, 1) := dk_42 (dk_at dksX7_keepsPast_0 18 rfl rfl)
theorem dX7_keepsPast_19 : decode cX7_keepsPast 19 = .ok (.getfield 16, 3) := dk_180 0 16 (dk_at dksX7_keepsPast_0 19 rfl rfl)
theorem dX7_keepsPast_22 : decode cX7_keepsPast 22 = .ok (.iload_n 1, 1) := dk_27 (dk_at dksX7_keepsPast_0 22 rfl rfl)
theorem dX7_keepsPast_23 : decode cX7_keepsPast 23 = .ok (.aload_n 0, 1) := dk_42 (dk_at dksX7_keepsPast_0 23 rfl rfl)
theorem dX7_keepsPast_24 : decode cX7_keepsPast 24 = .ok (.getfield 16, 3) := dk_180 0 16 (dk_at dksX7_keepsPast_1 0 rfl rfl)
theorem dX7_keepsPast_27 : decode cX7_keepsPast 27 = .ok (.iload_n 1, 1) := dk_27 (dk_at dksX7_keepsPast_1 3 rfl rfl)
theorem dX7_keepsPast_28 : decode cX7_keepsPast 28 = .ok (.sipush 280, 3) := dk_17 1 24 (dk_at dksX7_keepsPast_1 4 rfl rfl)
theorem dX7_keepsPast_31 : decode cX7_keepsPast 31 = .ok (.iadd, 1) := dk_96 (dk_at dksX7_keepsPast_1 7 rfl rfl)
theorem dX7_keepsPast_32 : decode cX7_keepsPast 32 = .ok (.iaload, 1) := dk_46 (dk_at dksX7_keepsPast_1 8 rfl rfl)
theorem dX7_keepsPast_33 : decode cX7_keepsPast 33 = .ok (.iastore, 1) := dk_79 (dk_at dksX7_keepsPast_1 9 rfl rfl)
theorem dX7_keepsPast_34 : decode cX7_keepsPast 34 = .ok (.iinc 1 1, 3) := dk_132 1 1 (dk_at dksX7_keepsPast_1 10 rfl rfl)
theorem dX7_keepsPast_37 : decode cX7_keepsPast 37 = .ok (.goto (-26), 3) := dk_167 255 230 (dk_at dksX7_keepsPast_1 13 rfl rfl)
theorem dX7_keepsPast_40 : decode cX7_keepsPast 40 = .ok (.aload_n 0, 1) := dk_42 (dk_at dksX7_keepsPast_1 16 rfl rfl)
theorem dX7_keepsPast_41 : decode cX7_keepsPast 41 = .ok (.dup, 1) := dk_89 (dk_at dksX7_keepsPast_1 17 rfl rfl)
theorem dX7_keepsPast_42 : decode cX7_keepsPast 42 = .ok (.getfield 259, 3) := dk_180 1 3 (dk_at dksX7_keepsPast_1 18 rfl rfl)
theorem dX7_keepsPast_45 : decode cX7_keepsPast 45 = .ok (.iconst 1, 1) := dk_4 (dk_at dksX7_keepsPast_1 21 rfl rfl)
theorem dX7_keepsPast_46 : decode cX7_keepsPast 46 = .ok (.isub, 1) := dk_100 (dk_at dksX7_keepsPast_1 22 rfl rfl)
theorem dX7_keepsPast_47 : decode cX7_keepsPast 47 = .ok (.putfield 259, 3) := dk_181 1 3 (dk_at dksX7_keepsPast_2 0 rfl rfl)
theorem dX7_keepsPast_50 : decode cX7_keepsPast 50 = .ok (.aload_n 0, 1) := dk_42 (dk_at dksX7_keepsPast_2 3 rfl rfl)
theorem dX7_keepsPast_51 : decode cX7_keepsPast 51 = .ok (.getfield 7, 3) := dk_180 0 7 (dk_at dksX7_keepsPast_2 4 rfl rfl)
theorem dX7_keepsPast_54 : decode cX7_keepsPast 54 = .ok (.iconst 0, 1) := dk_3 (dk_at dksX7_keepsPast_2 7 rfl rfl)
theorem dX7_keepsPast_55 : decode cX7_keepsPast 55 = .ok (.aload_n 0, 1) := dk_42 (dk_at dksX7_keepsPast_2 8 rfl rfl)
theorem dX7_keepsPast_56 : decode cX7_keepsPast 56 = .ok (.getfield 16, 3) := dk_180 0 16 (dk_at dksX7_keepsPast_2 9 rfl rfl)
theorem dX7_keepsPast_59 : decode cX7_keepsPast 59 = .ok (.sipush 280, 3) := dk_17 1 24 (dk_at dksX7_keepsPast_2 12 rfl rfl)
theorem dX7_keepsPast_62 : decode cX7_keepsPast 62 = .ok (.aload_n 0, 1) := dk_42 (dk_at dksX7_keepsPast_2 15 rfl rfl)
theorem dX7_keepsPast_63 : decode cX7_keepsPast 63 = .ok (.getfield 259, 3) := dk_180 1 3 (dk_at dksX7_keepsPast_2 16 rfl rfl)
theorem dX7_keepsPast_66 : decode cX7_keepsPast 66 = .ok (.imul, 1) := dk_104 (dk_at dksX7_keepsPast_2 19 rfl rfl)
theorem dX7_keepsPast_67 : decode cX7_keepsPast 67 = .ok (.invokestatic 246, 3) := dk_184 0 246 (dk_at dksX7_keepsPast_2 20 rfl rfl)
theorem dX7_keepsPast_70 : decode cX7_keepsPast 70 = .ok (.aload_n 0, 1) := dk_42 (dk_at dksX7_keepsPast_2 23 rfl rfl)
theorem dX7_keepsPast_71 : decode cX7_keepsPast 71 = .ok (.dup, 1) := dk_89 (dk_at dksX7_keepsPast_3 0 rfl rfl)
theorem dX7_keepsPast_72 : decode cX7_keepsPast 72 = .ok (.getfield 259, 3) := dk_180 1 3 (dk_at dksX7_keepsPast_3 1 rfl rfl)
theorem dX7_keepsPast_75 : decode cX7_keepsPast 75 = .ok (.iconst 1, 1) := dk_4 (dk_at dksX7_keepsPast_3 4 rfl rfl)
theorem dX7_keepsPast_76 : decode cX7_keepsPast 76 = .ok (.iadd, 1) := dk_96 (dk_at dksX7_keepsPast_3 5 rfl rfl)
theorem dX7_keepsPast_77 : decode cX7_keepsPast 77 = .ok (.putfield 259, 3) := dk_181 1 3 (dk_at dksX7_keepsPast_3 6 rfl rfl)
theorem dX7_keepsPast_80 : decode cX7_keepsPast 80 = .ok (.return_, 1) := dk_177 (dk_at dksX7_keepsPast_3 9 rfl rfl)
abbrev iX7_keepsPast : xM := (yX7_keepsPast, cX7_keepsPast, 2, none, [])
theorem mX7_keepsPast : xOkM iX7_keepsPast := ⟨by decide +kernel, by decide, q3924, q175⟩
abbrev cX7_errorCode : ByteArray := prog_15_method_76_code
def yX7_errorCode : MethodName := ⟨RX7, "errorCode", "()I"⟩
def dkwX7_errorCode_0 : List UInt8 := [42, 3, 181, 0, 72, 42, 180, 0, 240, 172]
abbrev dktX7_errorCode_0 : List UInt8 := dkwX7_errorCode_0 ++ []
theorem dksX7_errorCode_0 : cX7_errorCode.data.toList.drop 0 = dktX7_errorCode_0 := by decide +kernel
theorem dX7_errorCode_0 : decode cX7_errorCode 0 = .ok (.aload_n 0, 1) := dk_42 (dk_at dksX7_errorCode_0 0 rfl rfl)
theorem dX7_errorCode_1 : decode cX7_errorCode 1 = .ok (.iconst 0, 1) := dk_3 (dk_at dksX7_errorCode_0 1 rfl rfl)
theorem dX7_errorCode_2 : decode cX7_errorCode 2 = .ok (.putfield 72, 3) := dk_181 0 72 (dk_at dksX7_errorCode_0 2 rfl rfl)
theorem dX7_errorCode_5 : decode cX7_errorCode 5 = .ok (.aload_n 0, 1) := dk_42 (dk_at dksX7_errorCode_0 5 rfl rfl)
theorem dX7_errorCode_6 : decode cX7_errorCode 6 = .ok (.getfield 240, 3) := dk_180 0 240 (dk_at dksX7_errorCode_0 6 rfl rfl)
theorem dX7_errorCode_9 : decode cX7_errorCode 9 = .ok (.ireturn, 1) := dk_172 (dk_at dksX7_errorCode_0 9 rfl rfl)
abbrev iX7_errorCode : xM := (yX7_errorCode, cX7_errorCode, 1, (some .int), [])
theorem mX7_errorCode : xOkM iX7_errorCode := ⟨by decide +kernel, by decide, q3928, q175⟩
abbrev cX7_errorPosition : ByteArray := prog_15_method_77_code
def yX7_errorPosition : MethodName := ⟨RX7, "errorPosition", "()I"⟩
def dkwX7_errorPosition_0 : List UInt8 := [42, 3, 181, 0, 72, 42, 180, 0, 48, 172]
abbrev dktX7_errorPosition_0 : List UInt8 := dkwX7_errorPosition_0 ++ []
theorem dksX7_errorPosition_0 : cX7_errorPosition.data.toList.drop 0 = dktX7_errorPosition_0 := by decide +kernel
theorem dX7_errorPosition_0 : decode cX7_errorPosition 0 = .ok (.aload_n 0, 1) := dk_42 (dk_at dksX7_errorPosition_0 0 rfl rfl)
theorem dX7_errorPosition_1 : decode cX7_errorPosition 1 = .ok (.iconst 0, 1) := dk_3 (dk_at dksX7_errorPosition_0 1 rfl rfl)
theorem dX7_errorPosition_2 : decode cX7_errorPosition 2 = .ok (.putfield 72, 3) := dk_181 0 72 (dk_at dksX7_errorPosition_0 2 rfl rfl)
theorem dX7_errorPosition_5 : decode cX7_errorPosition 5 = .ok (.aload_n 0, 1) := dk_42 (dk_at dksX7_errorPosition_0 5 rfl rfl)
theorem dX7_errorPosition_6 : decode cX7_errorPosition 6 = .ok (.getfield 48, 3) := dk_180 0 48 (dk_at dksX7_errorPosition_0 6 rfl rfl)
theorem dX7_errorPosition_9 : decode cX7_errorPosition 9 = .ok (.ireturn, 1) := dk_172 (dk_at dksX7_errorPosition_0 9 rfl rfl)
abbrev iX7_errorPosition : xM := (yX7_errorPosition, cX7_errorPosition, 1, (some .int), [])
theorem mX7_errorPosition : xOkM iX7_errorPosition := ⟨by decide +kernel, by decide, q3932, q175⟩
abbrev cX7_tuneRow : ByteArray := prog_15_method_81_code
def yX7_tuneRow : MethodName := ⟨RX7, "tuneRow", "()I"⟩
def dkwX7_tuneRow_0 : List UInt8 := [42, 3, 181, 0, 72, 42, 182, 1, 124, 42, 182, 1, 89, 172]
abbrev dktX7_tuneRow_0 : List UInt8 := dkwX7_tuneRow_0 ++ []
theorem dksX7_tuneRow_0 : cX7_tuneRow.data.toList.drop 0 = dktX7_tuneRow_0 := by decide +kernel
theorem dX7_tuneRow_0 : decode cX7_tuneRow 0 = .ok (.aload_n 0, 1) := dk_42 (dk_at dksX7_tuneRow_0 0 rfl rfl)
theorem dX7_tuneRow_1 : decode cX7_tuneRow 1 = .ok (.iconst 0, 1) := dk_3 (dk_at dksX7_tuneRow_0 1 rfl rfl)
theorem dX7_tuneRow_2 : decode cX7_tuneRow 2 = .ok (.putfield 72, 3) := dk_181 0 72 (dk_at dksX7_tuneRow_0 2 rfl rfl)
theorem dX7_tuneRow_5 : decode cX7_tuneRow 5 = .ok (.aload_n 0, 1) := dk_42 (dk_at dksX7_tuneRow_0 5 rfl rfl)
theorem dX7_tuneRow_6 : decode cX7_tuneRow 6 = .ok (.invokevirtual 380, 3) := dk_182 1 124 (dk_at dksX7_tuneRow_0 6 rfl rfl)
theorem dX7_tuneRow_9 : decode cX7_tuneRow 9 = .ok (.aload_n 0, 1) := dk_42 (dk_at dksX7_tuneRow_0 9 rfl rfl)
theorem dX7_tuneRow_10 : decode cX7_tuneRow 10 = .ok (.invokevirtual 345, 3) := dk_182 1 89 (dk_at dksX7_tuneRow_0 10 rfl rfl)
theorem dX7_tuneRow_13 : decode cX7_tuneRow 13 = .ok (.ireturn, 1) := dk_172 (dk_at dksX7_tuneRow_0 13 rfl rfl)
abbrev iX7_tuneRow : xM := (yX7_tuneRow, cX7_tuneRow, 1, (some .int), [])
theorem mX7_tuneRow : xOkM iX7_tuneRow := ⟨by decide +kernel, by decide, q3936, q175⟩
abbrev cX7_turnPeg : ByteArray := prog_15_method_82_code
def yX7_turnPeg : MethodName := ⟨RX7, "turnPeg", "(III)I"⟩
def dkwX7_turnPeg_3 : List UInt8 := [172]
abbrev dktX7_turnPeg_3 : List UInt8 := dkwX7_turnPeg_3 ++ []
def dkwX7_turnPeg_2 : List UInt8 := [28, 182, 0, 85, 6, 182, 0, 136, 153, 0, 5, 3, 172, 42, 182, 1, 124, 42, 27, 28, 29, 182, 1, 59]
abbrev dktX7_turnPeg_2 : List UInt8 := dkwX7_turnPeg_2 ++ dktX7_turnPeg_3
def dkwX7_turnPeg_1 : List UInt8 := [20, 1, 137, 184, 0, 144, 154, 0, 7, 4, 167, 0, 4, 3, 5, 182, 0, 136, 154, 0, 17, 42, 42, 27]
abbrev dktX7_turnPeg_1 : List UInt8 := dkwX7_turnPeg_1 ++ dktX7_turnPeg_2
def dkwX7_turnPeg_0 : List UInt8 := [42, 3, 181, 0, 72, 42, 27, 28, 182, 1, 132, 154, 0, 48, 42, 29, 153, 0, 17, 29, 133, 20, 1, 135]
abbrev dktX7_turnPeg_0 : List UInt8 := dkwX7_turnPeg_0 ++ dktX7_turnPeg_1
theorem dksX7_turnPeg_0 : cX7_turnPeg.data.toList.drop 0 = dktX7_turnPeg_0 := by decide +kernel
theorem dksX7_turnPeg_1 : cX7_turnPeg.data.toList.drop 24 = dktX7_turnPeg_1 := dk_seg dksX7_turnPeg_0 24 rfl rfl
theorem dksX7_turnPeg_2 : cX7_turnPeg.data.toList.drop 48 = dktX7_turnPeg_2 := dk_seg dksX7_turnPeg_1 24 rfl rfl
theorem dksX7_turnPeg_3 : cX7_turnPeg.data.toList.drop 72 = dktX7_turnPeg_3 := dk_seg dksX7_turnPeg_2 24 rfl rfl
theorem dX7_turnPeg_0 : decode cX7_turnPeg 0 = .ok (.aload_n 0, 1) := dk_42 (dk_at dksX7_turnPeg_0 0 rfl rfl)
theorem dX7_turnPeg_1 : decode cX7_turnPeg 1 = .ok (.iconst 0, 1) := dk_3 (dk_at dksX7_turnPeg_0 1 rfl rfl)
theorem dX7_turnPeg_2 : decode cX7_turnPeg 2 = .ok (.putfield 72, 3) := dk_181 0 72 (dk_at dksX7_turnPeg_0 2 rfl rfl)
theorem dX7_turnPeg_5 : decode cX7_turnPeg 5 = .ok (.aload_n 0, 1) := dk_42 (dk_at dksX7_turnPeg_0 5 rfl rfl)
theorem dX7_turnPeg_6 : decode cX7_turnPeg 6 = .ok (.iload_n 1, 1) := dk_27 (dk_at dksX7_turnPeg_0 6 rfl rfl)
theorem dX7_turnPeg_7 : decode cX7_turnPeg 7 = .ok (.iload_n 2, 1) := dk_28 (dk_at dksX7_turnPeg_0 7 rfl rfl)
theorem dX7_turnPeg_8 : decode cX7_turnPeg 8 = .ok (.invokevirtual 388, 3) := dk_182 1 132 (dk_at dksX7_turnPeg_0 8 rfl rfl)
theorem dX7_turnPeg_11 : decode cX7_turnPeg 11 = .ok (.ifCond .ne 48, 3) := dk_154 0 48 (dk_at dksX7_turnPeg_0 11 rfl rfl)
theorem dX7_turnPeg_14 : decode cX7_turnPeg 14 = .ok (.aload_n 0, 1) := dk_42 (dk_at dksX7_turnPeg_0 14 rfl rfl)
theorem dX7_turnPeg_15 : decode cX7_turnPeg 15 = .ok (.iload_n 3, 1) := dk_29 (dk_at dksX7_turnPeg_0 15 rfl rfl)
theorem dX7_turnPeg_16 : decode cX7_turnPeg 16 = .ok (.ifCond .eq 17, 3) := dk_153 0 17 (dk_at dksX7_turnPeg_0 16 rfl rfl)
theorem dX7_turnPeg_19 : decode cX7_turnPeg 19 = .ok (.iload_n 3, 1) := dk_29 (dk_at dksX7_turnPeg_0 19 rfl rfl)
theorem dX7_turnPeg_20 : decode cX7_turnPeg 20 = .ok (.i2l, 1) := dk_133 (dk_at dksX7_turnPeg_0 20 rfl rfl)
theorem dX7_turnPeg_21 : decode cX7_turnPeg 21 = .ok (.ldc2_w 391, 3) := dk_20 1 135 (dk_at dksX7_turnPeg_0 21 rfl rfl)
theorem dX7_turnPeg_24 : decode cX7_turnPeg 24 = .ok (.ldc2_w 393, 3) := dk_20 1 137 (dk_at dksX7_turnPeg_1 0 rfl rfl)
theorem dX7_turnPeg_27 : decode cX7_turnPeg 27 = .ok (.invokestatic 144, 3) := dk_184 0 144 (dk_at dksX7_turnPeg_1 3 rfl rfl)
theorem dX7_turnPeg_30 : decode cX7_turnPeg 30 = .ok (.ifCond .ne 7, 3) := dk_154 0 7 (dk_at dksX7_turnPeg_1 6 rfl rfl)
theorem dX7_turnPeg_33 : decode cX7_turnPeg 33 = .ok (.iconst 1, 1) := dk_4 (dk_at dksX7_turnPeg_1 9 rfl rfl)
theorem dX7_turnPeg_34 : decode cX7_turnPeg 34 = .ok (.goto 4, 3) := dk_167 0 4 (dk_at dksX7_turnPeg_1 10 rfl rfl)
theorem dX7_turnPeg_37 : decode cX7_turnPeg 37 = .ok (.iconst 0, 1) := dk_3 (dk_at dksX7_turnPeg_1 13 rfl rfl)
theorem dX7_turnPeg_38 : decode cX7_turnPeg 38 = .ok (.iconst 2, 1) := dk_5 (dk_at dksX7_turnPeg_1 14 rfl rfl)
theorem dX7_turnPeg_39 : decode cX7_turnPeg 39 = .ok (.invokevirtual 136, 3) := dk_182 0 136 (dk_at dksX7_turnPeg_1 15 rfl rfl)
theorem dX7_turnPeg_42 : decode cX7_turnPeg 42 = .ok (.ifCond .ne 17, 3) := dk_154 0 17 (dk_at dksX7_turnPeg_1 18 rfl rfl)
theorem dX7_turnPeg_45 : decode cX7_turnPeg 45 = .ok (.aload_n 0, 1) := dk_42 (dk_at dksX7_turnPeg_1 21 rfl rfl)
theorem dX7_turnPeg_46 : decode cX7_turnPeg 46 = .ok (.aload_n 0, 1) := dk_42 (dk_at dksX7_turnPeg_1 22 rfl rfl)
theorem dX7_turnPeg_47 : decode cX7_turnPeg 47 = .ok (.iload_n 1, 1) := dk_27 (dk_at dksX7_turnPeg_1 23 rfl rfl)
theorem dX7_turnPeg_48 : decode cX7_turnPeg 48 = .ok (.iload_n 2, 1) := dk_28 (dk_at dksX7_turnPeg_2 0 rfl rfl)
theorem dX7_turnPeg_49 : decode cX7_turnPeg 49 = .ok (.invokevirtual 85, 3) := dk_182 0 85 (dk_at dksX7_turnPeg_2 1 rfl rfl)
theorem dX7_turnPeg_52 : decode cX7_turnPeg 52 = .ok (.iconst 3, 1) := dk_6 (dk_at dksX7_turnPeg_2 4 rfl rfl)
theorem dX7_turnPeg_53 : decode cX7_turnPeg 53 = .ok (.invokevirtual 136, 3) := dk_182 0 136 (dk_at dksX7_turnPeg_2 5 rfl rfl)
theorem dX7_turnPeg_56 : decode cX7_turnPeg 56 = .ok (.ifCond .eq 5, 3) := dk_153 0 5 (dk_at dksX7_turnPeg_2 8 rfl rfl)
theorem dX7_turnPeg_59 : decode cX7_turnPeg 59 = .ok (.iconst 0, 1) := dk_3 (dk_at dksX7_turnPeg_2 11 rfl rfl)
theorem dX7_turnPeg_60 : decode cX7_turnPeg 60 = .ok (.ireturn, 1) := dk_172 (dk_at dksX7_turnPeg_2 12 rfl rfl)
theorem dX7_turnPeg_61 : decode cX7_turnPeg 61 = .ok (.aload_n 0, 1) := dk_42 (dk_at dksX7_turnPeg_2 13 rfl rfl)
theorem dX7_turnPeg_62 : decode cX7_turnPeg 62 = .ok (.invokevirtual 380, 3) := dk_182 1 124 (dk_at dksX7_turnPeg_2 14 rfl rfl)
theorem dX7_turnPeg_65 : decode cX7_turnPeg 65 = .ok (.aload_n 0, 1) := dk_42 (dk_at dksX7_turnPeg_2 17 rfl rfl)
theorem dX7_turnPeg_66 : decode cX7_turnPeg 66 = .ok (.iload_n 1, 1) := dk_27 (dk_at dksX7_turnPeg_2 18 rfl rfl)
theorem dX7_turnPeg_67 : decode cX7_turnPeg 67 = .ok (.iload_n 2, 1) := dk_28 (dk_at dksX7_turnPeg_2 19 rfl rfl)
theorem dX7_turnPeg_68 : decode cX7_turnPeg 68 = .ok (.iload_n 3, 1) := dk_29 (dk_at dksX7_turnPeg_2 20 rfl rfl)
theorem dX7_turnPeg_69 : decode cX7_turnPeg 69 = .ok (.invokevirtual 315, 3) := dk_182 1 59 (dk_at dksX7_turnPeg_2 21 rfl rfl)
theorem dX7_turnPeg_72 : decode cX7_turnPeg 72 = .ok (.ireturn, 1) := dk_172 (dk_at dksX7_turnPeg_3 0 rfl rfl)
abbrev iX7_turnPeg : xM := (yX7_turnPeg, cX7_turnPeg, 4, (some .int), [])
theorem mX7_turnPeg : xOkM iX7_turnPeg := ⟨by decide +kernel, by decide, q3940, q175⟩
abbrev cX7_noString : ByteArray := prog_15_method_80_code
def yX7_noString : MethodName := ⟨RX7, "noString", "(II)Z"⟩
def dkwX7_noString_1 : List UInt8 := [167, 0, 4, 3, 4, 182, 0, 136, 153, 0, 7, 4, 167, 0, 4, 3, 172]
abbrev dktX7_noString_1 : List UInt8 := dkwX7_noString_1 ++ []
def dkwX7_noString_0 : List UInt8 := [42, 27, 182, 1, 127, 154, 0, 28, 42, 28, 133, 9, 20, 1, 130, 184, 0, 144, 154, 0, 7, 4]
abbrev dktX7_noString_0 : List UInt8 := dkwX7_noString_0 ++ dktX7_noString_1
theorem dksX7_noString_0 : cX7_noString.data.toList.drop 0 = dktX7_noString_0 := by decide +kernel
theorem dksX7_noString_1 : cX7_noString.data.toList.drop 22 = dktX7_noString_1 := dk_seg dksX7_noString_0 22 rfl rfl
theorem dX7_noString_0 : decode cX7_noString 0 = .ok (.aload_n 0, 1) := dk_42 (dk_at dksX7_noString_0 0 rfl rfl)
theorem dX7_noString_1 : decode cX7_noString 1 = .ok (.iload_n 1, 1) := dk_27 (dk_at dksX7_noString_0 1 rfl rfl)
theorem dX7_noString_2 : decode cX7_noString 2 = .ok (.invokevirtual 383, 3) := dk_182 1 127 (dk_at dksX7_noString_0 2 rfl rfl)
theorem dX7_noString_5 : decode cX7_noString 5 = .ok (.ifCond .ne 28, 3) := dk_154 0 28 (dk_at dksX7_noString_0 5 rfl rfl)
theorem dX7_noString_8 : decode cX7_noString 8 = .ok (.aload_n 0, 1) := dk_42 (dk_at dksX7_noString_0 8 rfl rfl)
theorem dX7_noString_9 : decode cX7_noString 9 = .ok (.iload_n 2, 1) := dk_28 (dk_at dksX7_noString_0 9 rfl rfl)
theorem dX7_noString_10 : decode cX7_noString 10 = .ok (.i2l, 1) := dk_133 (dk_at dksX7_noString_0 10 rfl rfl)
theorem dX7_noString_11 : decode cX7_noString 11 = .ok (.lconst 0, 1) := dk_9 (dk_at dksX7_noString_0 11 rfl rfl)
theorem dX7_noString_12 : decode cX7_noString 12 = .ok (.ldc2_w 386, 3) := dk_20 1 130 (dk_at dksX7_noString_0 12 rfl rfl)
theorem dX7_noString_15 : decode cX7_noString 15 = .ok (.invokestatic 144, 3) := dk_184 0 144 (dk_at dksX7_noString_0 15 rfl rfl)
theorem dX7_noString_18 : decode cX7_noString 18 = .ok (.ifCond .ne 7, 3) := dk_154 0 7 (dk_at dksX7_noString_0 18 rfl rfl)
theorem dX7_noString_21 : decode cX7_noString 21 = .ok (.iconst 1, 1) := dk_4 (dk_at dksX7_noString_0 21 rfl rfl)
theorem dX7_noString_22 : decode cX7_noString 22 = .ok (.goto 4, 3) := dk_167 0 4 (dk_at dksX7_noString_1 0 rfl rfl)
theorem dX7_noString_25 : decode cX7_noString 25 = .ok (.iconst 0, 1) := dk_3 (dk_at dksX7_noString_1 3 rfl rfl)
theorem dX7_noString_26 : decode cX7_noString 26 = .ok (.iconst 1, 1) := dk_4 (dk_at dksX7_noString_1 4 rfl rfl)
theorem dX7_noString_27 : decode cX7_noString 27 = .ok (.invokevirtual 136, 3) := dk_182 0 136 (dk_at dksX7_noString_1 5 rfl rfl)
theorem dX7_noString_30 : decode cX7_noString 30 = .ok (.ifCond .eq 7, 3) := dk_153 0 7 (dk_at dksX7_noString_1 8 rfl rfl)
theorem dX7_noString_33 : decode cX7_noString 33 = .ok (.iconst 1, 1) := dk_4 (dk_at dksX7_noString_1 11 rfl rfl)
theorem dX7_noString_34 : decode cX7_noString 34 = .ok (.goto 4, 3) := dk_167 0 4 (dk_at dksX7_noString_1 12 rfl rfl)
theorem dX7_noString_37 : decode cX7_noString 37 = .ok (.iconst 0, 1) := dk_3 (dk_at dksX7_noString_1 15 rfl rfl)
theorem dX7_noString_38 : decode cX7_noString 38 = .ok (.ireturn, 1) := dk_172 (dk_at dksX7_noString_1 16 rfl rfl)
abbrev iX7_noString : xM := (yX7_noString, cX7_noString, 3, (some .boolean), [])
theorem mX7_noString : xOkM iX7_noString := ⟨by decide +kernel, by decide, q3944, q175⟩
abbrev cX7_noFiddler : ByteArray := prog_15_method_79_code
def yX7_noFiddler : MethodName := ⟨RX7, "noFiddler", "(I)Z"⟩
def dkwX7_noFiddler_1 : List UInt8 := [3, 4, 182, 0, 136, 172]
abbrev dktX7_noFiddler_1 : List UInt8 := dkwX7_noFiddler_1 ++ []
def dkwX7_noFiddler_0 : List UInt8 := [42, 27, 133, 9, 42, 180, 0, 7, 16, 13, 46, 4, 100, 133, 184, 0, 144, 154, 0, 7, 4, 167, 0, 4]
abbrev dktX7_noFiddler_0 : List UInt8 := dkwX7_noFiddler_0 ++ dktX7_noFiddler_1
theorem dksX7_noFiddler_0 : cX7_noFiddler.data.toList.drop 0 = dktX7_noFiddler_0 := by decide +kernel
theorem dksX7_noFiddler_1 : cX7_noFiddler.data.toList.drop 24 = dktX7_noFiddler_1 := dk_seg dksX7_noFiddler_0 24 rfl rfl
theorem dX7_noFiddler_0 : decode cX7_noFiddler 0 = .ok (.aload_n 0, 1) := dk_42 (dk_at dksX7_noFiddler_0 0 rfl rfl)
theorem dX7_noFiddler_1 : decode cX7_noFiddler 1 = .ok (.iload_n 1, 1) := dk_27 (dk_at dksX7_noFiddler_0 1 rfl rfl)
theorem dX7_noFiddler_2 : decode cX7_noFiddler 2 = .ok (.i2l, 1) := dk_133 (dk_at dksX7_noFiddler_0 2 rfl rfl)
theorem dX7_noFiddler_3 : decode cX7_noFiddler 3 = .ok (.lconst 0, 1) := dk_9 (dk_at dksX7_noFiddler_0 3 rfl rfl)
theorem dX7_noFiddler_4 : decode cX7_noFiddler 4 = .ok (.aload_n 0, 1) := dk_42 (dk_at dksX7_noFiddler_0 4 rfl rfl)
theorem dX7_noFiddler_5 : decode cX7_noFiddler 5 = .ok (.getfield 7, 3) := dk_180 0 7 (dk_at dksX7_noFiddler_0 5 rfl rfl)
theorem dX7_noFiddler_8 : decode cX7_noFiddler 8 = .ok (.bipush 13, 2) := dk_16 13 (dk_at dksX7_noFiddler_0 8 rfl rfl)
theorem dX7_noFiddler_10 : decode cX7_noFiddler 10 = .ok (.iaload, 1) := dk_46 (dk_at dksX7_noFiddler_0 10 rfl rfl)
theorem dX7_noFiddler_11 : decode cX7_noFiddler 11 = .ok (.iconst 1, 1) := dk_4 (dk_at dksX7_noFiddler_0 11 rfl rfl)
theorem dX7_noFiddler_12 : decode cX7_noFiddler 12 = .ok (.isub, 1) := dk_100 (dk_at dksX7_noFiddler_0 12 rfl rfl)
theorem dX7_noFiddler_13 : decode cX7_noFiddler 13 = .ok (.i2l, 1) := dk_133 (dk_at dksX7_noFiddler_0 13 rfl rfl)
theorem dX7_noFiddler_14 : decode cX7_noFiddler 14 = .ok (.invokestatic 144, 3) := dk_184 0 144 (dk_at dksX7_noFiddler_0 14 rfl rfl)
theorem dX7_noFiddler_17 : decode cX7_noFiddler 17 = .ok (.ifCond .ne 7, 3) := dk_154 0 7 (dk_at dksX7_noFiddler_0 17 rfl rfl)
theorem dX7_noFiddler_20 : decode cX7_noFiddler 20 = .ok (.iconst 1, 1) := dk_4 (dk_at dksX7_noFiddler_0 20 rfl rfl)
theorem dX7_noFiddler_21 : decode cX7_noFiddler 21 = .ok (.goto 4, 3) := dk_167 0 4 (dk_at dksX7_noFiddler_0 21 rfl rfl)
theorem dX7_noFiddler_24 : decode cX7_noFiddler 24 = .ok (.iconst 0, 1) := dk_3 (dk_at dksX7_noFiddler_1 0 rfl rfl)
theorem dX7_noFiddler_25 : decode cX7_noFiddler 25 = .ok (.iconst 1, 1) := dk_4 (dk_at dksX7_noFiddler_1 1 rfl rfl)
theorem dX7_noFiddler_26 : decode cX7_noFiddler 26 = .ok (.invokevirtual 136, 3) := dk_182 0 136 (dk_at dksX7_noFiddler_1 2 rfl rfl)
theorem dX7_noFiddler_29 : decode cX7_noFiddler 29 = .ok (.ireturn, 1) := dk_172 (dk_at dksX7_noFiddler_1 5 rfl rfl)
abbrev iX7_noFiddler : xM := (yX7_noFiddler, cX7_noFiddler, 2, (some .boolean), [])
theorem mX7_noFiddler : xOkM iX7_noFiddler := ⟨by decide +kernel, by decide, q3948, q175⟩
abbrev cX7_chalkPeg : ByteArray := prog_15_method_83_code
def yX7_chalkPeg : MethodName := ⟨RX7, "chalkPeg", "(II)I"⟩
def dkwX7_chalkPeg_2 : List UInt8 := [172]
abbrev dktX7_chalkPeg_2 : List UInt8 := dkwX7_chalkPeg_2 ++ []
def dkwX7_chalkPeg_1 : List UInt8 := [4, 167, 0, 4, 3, 5, 182, 0, 136, 153, 0, 5, 3, 172, 42, 182, 1, 124, 42, 27, 28, 182, 1, 62]
abbrev dktX7_chalkPeg_1 : List UInt8 := dkwX7_chalkPeg_1 ++ dktX7_chalkPeg_2
def dkwX7_chalkPeg_0 : List UInt8 := [42, 3, 181, 0, 72, 42, 27, 28, 182, 1, 132, 154, 0, 25, 42, 42, 27, 28, 182, 1, 53, 154, 0, 7]
abbrev dktX7_chalkPeg_0 : List UInt8 := dkwX7_chalkPeg_0 ++ dktX7_chalkPeg_1
theorem dksX7_chalkPeg_0 : cX7_chalkPeg.data.toList.drop 0 = dktX7_chalkPeg_0 := by decide +kernel
theorem dksX7_chalkPeg_1 : cX7_chalkPeg.data.toList.drop 24 = dktX7_chalkPeg_1 := dk_seg dksX7_chalkPeg_0 24 rfl rfl
theorem dksX7_chalkPeg_2 : cX7_chalkPeg.data.toList.drop 48 = dktX7_chalkPeg_2 := dk_seg dksX7_chalkPeg_1 24 rfl rfl
theorem dX7_chalkPeg_0 : decode cX7_chalkPeg 0 = .ok (.aload_n 0, 1) := dk_42 (dk_at dksX7_chalkPeg_0 0 rfl rfl)
theorem dX7_chalkPeg_1 : decode cX7_chalkPeg 1 = .ok (.iconst 0, 1) := dk_3 (dk_at dksX7_chalkPeg_0 1 rfl rfl)
theorem dX7_chalkPeg_2 : decode cX7_chalkPeg 2 = .ok (.putfield 72, 3) := dk_181 0 72 (dk_at dksX7_chalkPeg_0 2 rfl rfl)
theorem dX7_chalkPeg_5 : decode cX7_chalkPeg 5 = .ok (.aload_n 0, 1) := dk_42 (dk_at dksX7_chalkPeg_0 5 rfl rfl)
theorem dX7_chalkPeg_6 : decode cX7_chalkPeg 6 = .ok (.iload_n 1, 1) := dk_27 (dk_at dksX7_chalkPeg_0 6 rfl rfl)
theorem dX7_chalkPeg_7 : decode cX7_chalkPeg 7 = .ok (.iload_n 2, 1) := dk_28 (dk_at dksX7_chalkPeg_0 7 rfl rfl)
theorem dX7_chalkPeg_8 : decode cX7_chalkPeg 8 = .ok (.invokevirtual 388, 3) := dk_182 1 132 (dk_at dksX7_chalkPeg_0 8 rfl rfl)
theorem dX7_chalkPeg_11 : decode cX7_chalkPeg 11 = .ok (.ifCond .ne 25, 3) := dk_154 0 25 (dk_at dksX7_chalkPeg_0 11 rfl rfl)
theorem dX7_chalkPeg_14 : decode cX7_chalkPeg 14 = .ok (.aload_n 0, 1) := dk_42 (dk_at dksX7_chalkPeg_0 14 rfl rfl)
theorem dX7_chalkPeg_15 : decode cX7_chalkPeg 15 = .ok (.aload_n 0, 1) := dk_42 (dk_at dksX7_chalkPeg_0 15 rfl rfl)
theorem dX7_chalkPeg_16 : decode cX7_chalkPeg 16 = .ok (.iload_n 1, 1) := dk_27 (dk_at dksX7_chalkPeg_0 16 rfl rfl)
theorem dX7_chalkPeg_17 : decode cX7_chalkPeg 17 = .ok (.iload_n 2, 1) := dk_28 (dk_at dksX7_chalkPeg_0 17 rfl rfl)
theorem dX7_chalkPeg_18 : decode cX7_chalkPeg 18 = .ok (.invokevirtual 309, 3) := dk_182 1 53 (dk_at dksX7_chalkPeg_0 18 rfl rfl)
theorem dX7_chalkPeg_21 : decode cX7_chalkPeg 21 = .ok (.ifCond .ne 7, 3) := dk_154 0 7 (dk_at dksX7_chalkPeg_0 21 rfl rfl)
theorem dX7_chalkPeg_24 : decode cX7_chalkPeg 24 = .ok (.iconst 1, 1) := dk_4 (dk_at dksX7_chalkPeg_1 0 rfl rfl)
theorem dX7_chalkPeg_25 : decode cX7_chalkPeg 25 = .ok (.goto 4, 3) := dk_167 0 4 (dk_at dksX7_chalkPeg_1 1 rfl rfl)
theorem dX7_chalkPeg_28 : decode cX7_chalkPeg 28 = .ok (.iconst 0, 1) := dk_3 (dk_at dksX7_chalkPeg_1 4 rfl rfl)
theorem dX7_chalkPeg_29 : decode cX7_chalkPeg 29 = .ok (.iconst 2, 1) := dk_5 (dk_at dksX7_chalkPeg_1 5 rfl rfl)
theorem dX7_chalkPeg_30 : decode cX7_chalkPeg 30 = .ok (.invokevirtual 136, 3) := dk_182 0 136 (dk_at dksX7_chalkPeg_1 6 rfl rfl)
theorem dX7_chalkPeg_33 : decode cX7_chalkPeg 33 = .ok (.ifCond .eq 5, 3) := dk_153 0 5 (dk_at dksX7_chalkPeg_1 9 rfl rfl)
theorem dX7_chalkPeg_36 : decode cX7_chalkPeg 36 = .ok (.iconst 0, 1) := dk_3 (dk_at dksX7_chalkPeg_1 12 rfl rfl)
theorem dX7_chalkPeg_37 : decode cX7_chalkPeg 37 = .ok (.ireturn, 1) := dk_172 (dk_at dksX7_chalkPeg_1 13 rfl rfl)
theorem dX7_chalkPeg_38 : decode cX7_chalkPeg 38 = .ok (.aload_n 0, 1) := dk_42 (dk_at dksX7_chalkPeg_1 14 rfl rfl)
theorem dX7_chalkPeg_39 : decode cX7_chalkPeg 39 = .ok (.invokevirtual 380, 3) := dk_182 1 124 (dk_at dksX7_chalkPeg_1 15 rfl rfl)
theorem dX7_chalkPeg_42 : decode cX7_chalkPeg 42 = .ok (.aload_n 0, 1) := dk_42 (dk_at dksX7_chalkPeg_1 18 rfl rfl)
theorem dX7_chalkPeg_43 : decode cX7_chalkPeg 43 = .ok (.iload_n 1, 1) := dk_27 (dk_at dksX7_chalkPeg_1 19 rfl rfl)
theorem dX7_chalkPeg_44 : decode cX7_chalkPeg 44 = .ok (.iload_n 2, 1) := dk_28 (dk_at dksX7_chalkPeg_1 20 rfl rfl)
theorem dX7_chalkPeg_45 : decode cX7_chalkPeg 45 = .ok (.invokevirtual 318, 3) := dk_182 1 62 (dk_at dksX7_chalkPeg_1 21 rfl rfl)
theorem dX7_chalkPeg_48 : decode cX7_chalkPeg 48 = .ok (.ireturn, 1) := dk_172 (dk_at dksX7_chalkPeg_2 0 rfl rfl)
abbrev iX7_chalkPeg : xM := (yX7_chalkPeg, cX7_chalkPeg, 3, (some .int), [])
theorem mX7_chalkPeg : xOkM iX7_chalkPeg := ⟨by decide +kernel, by decide, q3955, q175⟩
abbrev cX7_replaceString : ByteArray := prog_15_method_84_code
def yX7_replaceString : MethodName := ⟨RX7, "replaceString", "(II)I"⟩
def dkwX7_replaceString_2 : List UInt8 := [172]
abbrev dktX7_replaceString_2 : List UInt8 := dkwX7_replaceString_2 ++ []
def dkwX7_replaceString_1 : List UInt8 := [4, 167, 0, 4, 3, 5, 182, 0, 136, 153, 0, 5, 3, 172, 42, 182, 1, 124, 42, 27, 28, 182, 1, 65]
abbrev dktX7_replaceString_1 : List UInt8 := dkwX7_replaceString_1 ++ dktX7_replaceString_2
def dkwX7_replaceString_0 : List UInt8 := [42, 3, 181, 0, 72, 42, 27, 28, 182, 1, 132, 154, 0, 25, 42, 42, 27, 28, 182, 1, 56, 154, 0, 7]
abbrev dktX7_replaceString_0 : List UInt8 := dkwX7_replaceString_0 ++ dktX7_replaceString_1
theorem dksX7_replaceString_0 : cX7_replaceString.data.toList.drop 0 = dktX7_replaceString_0 := by decide +kernel
theorem dksX7_replaceString_1 : cX7_replaceString.data.toList.drop 24 = dktX7_replaceString_1 := dk_seg dksX7_replaceString_0 24 rfl rfl
theorem dksX7_replaceString_2 : cX7_replaceString.data.toList.drop 48 = dktX7_replaceString_2 := dk_seg dksX7_replaceString_1 24 rfl rfl
theorem dX7_replaceString_0 : decode cX7_replaceString 0 = .ok (.aload_n 0, 1) := dk_42 (dk_at dksX7_replaceString_0 0 rfl rfl)
theorem dX7_replaceString_1 : decode cX7_replaceString 1 = .ok (.iconst 0, 1) := dk_3 (dk_at dksX7_replaceString_0 1 rfl rfl)
theorem dX7_replaceString_2 : decode cX7_replaceString 2 = .ok (.putfield 72, 3) := dk_181 0 72 (dk_at dksX7_replaceString_0 2 rfl rfl)
theorem dX7_replaceString_5 : decode cX7_replaceString 5 = .ok (.aload_n 0, 1) := dk_42 (dk_at dksX7_replaceString_0 5 rfl rfl)
theorem dX7_replaceString_6 : decode cX7_replaceString 6 = .ok (.iload_n 1, 1) := dk_27 (dk_at dksX7_replaceString_0 6 rfl rfl)
theorem dX7_replaceString_7 : decode cX7_replaceString 7 = .ok (.iload_n 2, 1) := dk_28 (dk_at dksX7_replaceString_0 7 rfl rfl)
theorem dX7_replaceString_8 : decode cX7_replaceString 8 = .ok (.invokevirtual 388, 3) := dk_182 1 132 (dk_at dksX7_replaceString_0 8 rfl rfl)
theorem dX7_replaceString_11 : decode cX7_replaceString 11 = .ok (.ifCond .ne 25, 3) := dk_154 0 25 (dk_at dksX7_replaceString_0 11 rfl rfl)
theorem dX7_replaceString_14 : decode cX7_replaceString 14 = .ok (.aload_n 0, 1) := dk_42 (dk_at dksX7_replaceString_0 14 rfl rfl)
theorem dX7_replaceString_15 : decode cX7_replaceString 15 = .ok (.aload_n 0, 1) := dk_42 (dk_at dksX7_replaceString_0 15 rfl rfl)
theorem dX7_replaceString_16 : decode cX7_replaceString 16 = .ok (.iload_n 1, 1) := dk_27 (dk_at dksX7_replaceString_0 16 rfl rfl)
theorem dX7_replaceString_17 : decode cX7_replaceString 17 = .ok (.iload_n 2, 1) := dk_28 (dk_at dksX7_replaceString_0 17 rfl rfl)
theorem dX7_replaceString_18 : decode cX7_replaceString 18 = .ok (.invokevirtual 312, 3) := dk_182 1 56 (dk_at dksX7_replaceString_0 18 rfl rfl)
theorem dX7_replaceString_21 : decode cX7_replaceString 21 = .ok (.ifCond .ne 7, 3) := dk_154 0 7 (dk_at dksX7_replaceString_0 21 rfl rfl)
theorem dX7_replaceString_24 : decode cX7_replaceString 24 = .ok (.iconst 1, 1) := dk_4 (dk_at dksX7_replaceString_1 0 rfl rfl)
theorem dX7_replaceString_25 : decode cX7_replaceString 25 = .ok (.goto 4, 3) := dk_167 0 4 (dk_at dksX7_replaceString_1 1 rfl rfl)
theorem dX7_replaceString_28 : decode cX7_replaceString 28 = .ok (.iconst 0, 1) := dk_3 (dk_at dksX7_replaceString_1 4 rfl rfl)
theorem dX7_replaceString_29 : decode cX7_replaceString 29 = .ok (.iconst 2, 1) := dk_5 (dk_at dksX7_replaceString_1 5 rfl rfl)
theorem dX7_replaceString_30 : decode cX7_replaceString 30 = .ok (.invokevirtual 136, 3) := dk_182 0 136 (dk_at dksX7_replaceString_1 6 rfl rfl)
theorem dX7_replaceString_33 : decode cX7_replaceString 33 = .ok (.ifCond .eq 5, 3) := dk_153 0 5 (dk_at dksX7_replaceString_1 9 rfl rfl)
theorem dX7_replaceString_36 : decode cX7_replaceString 36 = .ok (.iconst 0, 1) := dk_3 (dk_at dksX7_replaceString_1 12 rfl rfl)
theorem dX7_replaceString_37 : decode cX7_replaceString 37 = .ok (.ireturn, 1) := dk_172 (dk_at dksX7_replaceString_1 13 rfl rfl)
theorem dX7_replaceString_38 : decode cX7_replaceString 38 = .ok (.aload_n 0, 1) := dk_42 (dk_at dksX7_replaceString_1 14 rfl rfl)
theorem dX7_replaceString_39 : decode cX7_replaceString 39 = .ok (.invokevirtual 380, 3) := dk_182 1 124 (dk_at dksX7_replaceString_1 15 rfl rfl)
theorem dX7_replaceString_42 : decode cX7_replaceString 42 = .ok (.aload_n 0, 1) := dk_42 (dk_at dksX7_replaceString_1 18 rfl rfl)
theorem dX7_replaceString_43 : decode cX7_replaceString 43 = .ok (.iload_n 1, 1) := dk_27 (dk_at dksX7_replaceString_1 19 rfl rfl)
theorem dX7_replaceString_44 : decode cX7_replaceString 44 = .ok (.iload_n 2, 1) := dk_28 (dk_at dksX7_replaceString_1 20 rfl rfl)
theorem dX7_replaceString_45 : decode cX7_replaceString 45 = .ok (.invokevirtual 321, 3) := dk_182 1 65 (dk_at dksX7_replaceString_1 21 rfl rfl)
theorem dX7_replaceString_48 : decode cX7_replaceString 48 = .ok (.ireturn, 1) := dk_172 (dk_at dksX7_replaceString_2 0 rfl rfl)
abbrev iX7_replaceString : xM := (yX7_replaceString, cX7_replaceString, 3, (some .int), [])
theorem mX7_replaceString : xOkM iX7_replaceString := ⟨by decide +kernel, by decide, q3959, q175⟩
abbrev cX7_swapPlaces : ByteArray := prog_15_method_85_code
def yX7_swapPlaces : MethodName := ⟨RX7, "swapPlaces", "(II)I"⟩
def dkwX7_swapPlaces_3 : List UInt8 := [182, 1, 37, 172]
abbrev dktX7_swapPlaces_3 : List UInt8 := dkwX7_swapPlaces_3 ++ []
def dkwX7_swapPlaces_2 : List UInt8 := [154, 0, 7, 4, 167, 0, 4, 3, 6, 182, 0, 136, 153, 0, 5, 3, 172, 42, 182, 1, 124, 42, 27, 28]
abbrev dktX7_swapPlaces_2 : List UInt8 := dkwX7_swapPlaces_2 ++ dktX7_swapPlaces_3
def dkwX7_swapPlaces_1 : List UInt8 := [160, 0, 7, 4, 167, 0, 4, 3, 5, 182, 0, 136, 154, 0, 25, 42, 42, 27, 28, 182, 1, 34]
abbrev dktX7_swapPlaces_1 : List UInt8 := dkwX7_swapPlaces_1 ++ dktX7_swapPlaces_2
def dkwX7_swapPlaces_0 : List UInt8 := [42, 3, 181, 0, 72, 42, 27, 182, 1, 127, 154, 0, 51, 42, 28, 182, 1, 127, 154, 0, 43, 42, 27, 28]
abbrev dktX7_swapPlaces_0 : List UInt8 := dkwX7_swapPlaces_0 ++ dktX7_swapPlaces_1
theorem dksX7_swapPlaces_0 : cX7_swapPlaces.data.toList.drop 0 = dktX7_swapPlaces_0 := by decide +kernel
theorem dksX7_swapPlaces_1 : cX7_swapPlaces.data.toList.drop 24 = dktX7_swapPlaces_1 := dk_seg dksX7_swapPlaces_0 24 rfl rfl
theorem dksX7_swapPlaces_2 : cX7_swapPlaces.data.toList.drop 46 = dktX7_swapPlaces_2 := dk_seg dksX7_swapPlaces_1 22 rfl rfl
theorem dksX7_swapPlaces_3 : cX7_swapPlaces.data.toList.drop 70 = dktX7_swapPlaces_3 := dk_seg dksX7_swapPlaces_2 24 rfl rfl
theorem dX7_swapPlaces_0 : decode cX7_swapPlaces 0 = .ok (.aload_n 0, 1) := dk_42 (dk_at dksX7_swapPlaces_0 0 rfl rfl)
theorem dX7_swapPlaces_1 : decode cX7_swapPlaces 1 = .ok (.iconst 0, 1) := dk_3 (dk_at dksX7_swapPlaces_0 1 rfl rfl)
theorem dX7_swapPlaces_2 : decode cX7_swapPlaces 2 = .ok (.putfield 72, 3) := dk_181 0 72 (dk_at dksX7_swapPlaces_0 2 rfl rfl)
theorem dX7_swapPlaces_5 : decode cX7_swapPlaces 5 = .ok (.aload_n 0, 1) := dk_42 (dk_at dksX7_swapPlaces_0 5 rfl rfl)
theorem dX7_swapPlaces_6 : decode cX7_swapPlaces 6 = .ok (.iload_n 1, 1) := dk_27 (dk_at dksX7_swapPlaces_0 6 rfl rfl)
theorem dX7_swapPlaces_7 : decode cX7_swapPlaces 7 = .ok (.invokevirtual 383, 3) := dk_182 1 127 (dk_at dksX7_swapPlaces_0 7 rfl rfl)
theorem dX7_swapPlaces_10 : decode cX7_swapPlaces 10 = .ok (.ifCond .ne 51, 3) := dk_154 0 51 (dk_at dksX7_swapPlaces_0 10 rfl rfl)
theorem dX7_swapPlaces_13 : decode cX7_swapPlaces 13 = .ok (.aload_n 0, 1) := dk_42 (dk_at dksX7_swapPlaces_0 13 rfl rfl)
theorem dX7_swapPlaces_14 : decode cX7_swapPlaces 14 = .ok (.iload_n 2, 1) := dk_28 (dk_at dksX7_swapPlaces_0 14 rfl rfl)
theorem dX7_swapPlaces_15 : decode cX7_swapPlaces 15 = .ok (.invokevirtual 383, 3) := dk_182 1 127 (dk_at dksX7_swapPlaces_0 15 rfl rfl)
theorem dX7_swapPlaces_18 : decode cX7_swapPlaces 18 = .ok (.ifCond .ne 43, 3) := dk_154 0 43 (dk_at dksX7_swapPlaces_0 18 rfl rfl)
theorem dX7_swapPlaces_21 : decode cX7_swapPlaces 21 = .ok (.aload_n 0, 1) := dk_42 (dk_at dksX7_swapPlaces_0 21 rfl rfl)
theorem dX7_swapPlaces_22 : decode cX7_swapPlaces 22 = .ok (.iload_n 1, 1) := dk_27 (dk_at dksX7_swapPlaces_0 22 rfl rfl)
theorem dX7_swapPlaces_23 : decode cX7_swapPlaces 23 = .ok (.iload_n 2, 1) := dk_28 (dk_at dksX7_swapPlaces_0 23 rfl rfl)
theorem dX7_swapPlaces_24 : decode cX7_swapPlaces 24 = .ok (.if_icmp .ne 7, 3) := dk_160 0 7 (dk_at dksX7_swapPlaces_1 0 rfl rfl)
theorem dX7_swapPlaces_27 : decode cX7_swapPlaces 27 = .ok (.iconst 1, 1) := dk_4 (dk_at dksX7_swapPlaces_1 3 rfl rfl)
theorem dX7_swapPlaces_28 : decode cX7_swapPlaces 28 = .ok (.goto 4, 3) := dk_167 0 4 (dk_at dksX7_swapPlaces_1 4 rfl rfl)
theorem dX7_swapPlaces_31 : decode cX7_swapPlaces 31 = .ok (.iconst 0, 1) := dk_3 (dk_at dksX7_swapPlaces_1 7 rfl rfl)
theorem dX7_swapPlaces_32 : decode cX7_swapPlaces 32 = .ok (.iconst 2, 1) := dk_5 (dk_at dksX7_swapPlaces_1 8 rfl rfl)
theorem dX7_swapPlaces_33 : decode cX7_swapPlaces 33 = .ok (.invokevirtual 136, 3) := dk_182 0 136 (dk_at dksX7_swapPlaces_1 9 rfl rfl)
theorem dX7_swapPlaces_36 : decode cX7_swapPlaces 36 = .ok (.ifCond .ne 25, 3) := dk_154 0 25 (dk_at dksX7_swapPlaces_1 12 rfl rfl)
theorem dX7_swapPlaces_39 : decode cX7_swapPlaces 39 = .ok (.aload_n 0, 1) := dk_42 (dk_at dksX7_swapPlaces_1 15 rfl rfl)
theorem dX7_swapPlaces_40 : decode cX7_swapPlaces 40 = .ok (.aload_n 0, 1) := dk_42 (dk_at dksX7_swapPlaces_1 16 rfl rfl)
theorem dX7_swapPlaces_41 : decode cX7_swapPlaces 41 = .ok (.iload_n 1, 1) := dk_27 (dk_at dksX7_swapPlaces_1 17 rfl rfl)
theorem dX7_swapPlaces_42 : decode cX7_swapPlaces 42 = .ok (.iload_n 2, 1) := dk_28 (dk_at dksX7_swapPlaces_1 18 rfl rfl)
theorem dX7_swapPlaces_43 : decode cX7_swapPlaces 43 = .ok (.invokevirtual 290, 3) := dk_182 1 34 (dk_at dksX7_swapPlaces_1 19 rfl rfl)
theorem dX7_swapPlaces_46 : decode cX7_swapPlaces 46 = .ok (.ifCond .ne 7, 3) := dk_154 0 7 (dk_at dksX7_swapPlaces_2 0 rfl rfl)
theorem dX7_swapPlaces_49 : decode cX7_swapPlaces 49 = .ok (.iconst 1, 1) := dk_4 (dk_at dksX7_swapPlaces_2 3 rfl rfl)
theorem dX7_swapPlaces_50 : decode cX7_swapPlaces 50 = .ok (.goto 4, 3) := dk_167 0 4 (dk_at dksX7_swapPlaces_2 4 rfl rfl)
theorem dX7_swapPlaces_53 : decode cX7_swapPlaces 53 = .ok (.iconst 0, 1) := dk_3 (dk_at dksX7_swapPlaces_2 7 rfl rfl)
theorem dX7_swapPlaces_54 : decode cX7_swapPlaces 54 = .ok (.iconst 3, 1) := dk_6 (dk_at dksX7_swapPlaces_2 8 rfl rfl)
theorem dX7_swapPlaces_55 : decode cX7_swapPlaces 55 = .ok (.invokevirtual 136, 3) := dk_182 0 136 (dk_at dksX7_swapPlaces_2 9 rfl rfl)
theorem dX7_swapPlaces_58 : decode cX7_swapPlaces 58 = .ok (.ifCond .eq 5, 3) := dk_153 0 5 (dk_at dksX7_swapPlaces_2 12 rfl rfl)
theorem dX7_swapPlaces_61 : decode cX7_swapPlaces 61 = .ok (.iconst 0, 1) := dk_3 (dk_at dksX7_swapPlaces_2 15 rfl rfl)
theorem dX7_swapPlaces_62 : decode cX7_swapPlaces 62 = .ok (.ireturn, 1) := dk_172 (dk_at dksX7_swapPlaces_2 16 rfl rfl)
theorem dX7_swapPlaces_63 : decode cX7_swapPlaces 63 = .ok (.aload_n 0, 1) := dk_42 (dk_at dksX7_swapPlaces_2 17 rfl rfl)
theorem dX7_swapPlaces_64 : decode cX7_swapPlaces 64 = .ok (.invokevirtual 380, 3) := dk_182 1 124 (dk_at dksX7_swapPlaces_2 18 rfl rfl)
theorem dX7_swapPlaces_67 : decode cX7_swapPlaces 67 = .ok (.aload_n 0, 1) := dk_42 (dk_at dksX7_swapPlaces_2 21 rfl rfl)
theorem dX7_swapPlaces_68 : decode cX7_swapPlaces 68 = .ok (.iload_n 1, 1) := dk_27 (dk_at dksX7_swapPlaces_2 22 rfl rfl)
theorem dX7_swapPlaces_69 : decode cX7_swapPlaces 69 = .ok (.iload_n 2, 1) := dk_28 (dk_at dksX7_swapPlaces_2 23 rfl rfl)
theorem dX7_swapPlaces_70 : decode cX7_swapPlaces 70 = .ok (.invokevirtual 293, 3) := dk_182 1 37 (dk_at dksX7_swapPlaces_3 0 rfl rfl)
theorem dX7_swapPlaces_73 : decode cX7_swapPlaces 73 = .ok (.ireturn, 1) := dk_172 (dk_at dksX7_swapPlaces_3 3 rfl rfl)
abbrev iX7_swapPlaces : xM := (yX7_swapPlaces, cX7_swapPlaces, 3, (some .int), [])
theorem mX7_swapPlaces : xOkM iX7_swapPlaces := ⟨by decide +kernel, by decide, q3963, q175⟩
abbrev cX7_leaveRow : ByteArray := prog_15_method_86_code
def yX7_leaveRow : MethodName := ⟨RX7, "leaveRow", "(I)I"⟩
def dkwX7_leaveRow_1 : List UInt8 := [167, 0, 4, 3, 5, 182, 0, 136, 153, 0, 5, 3, 172, 42, 182, 1, 124, 42, 27, 182, 1, 44, 172]
abbrev dktX7_leaveRow_1 : List UInt8 := dkwX7_leaveRow_1 ++ []
def dkwX7_leaveRow_0 : List UInt8 := [42, 3, 181, 0, 72, 42, 27, 182, 1, 127, 154, 0, 25, 42, 42, 27, 182, 0, 127, 2, 160, 0, 7, 4]
abbrev dktX7_leaveRow_0 : List UInt8 := dkwX7_leaveRow_0 ++ dktX7_leaveRow_1
theorem dksX7_leaveRow_0 : cX7_leaveRow.data.toList.drop 0 = dktX7_leaveRow_0 := by decide +kernel
theorem dksX7_leaveRow_1 : cX7_leaveRow.data.toList.drop 24 = dktX7_leaveRow_1 := dk_seg dksX7_leaveRow_0 24 rfl rfl
theorem dX7_leaveRow_0 : decode cX7_leaveRow 0 = .ok (.aload_n 0, 1) := dk_42 (dk_at dksX7_leaveRow_0 0 rfl rfl)
theorem dX7_leaveRow_1 : decode cX7_leaveRow 1 = .ok (.iconst 0, 1) := dk_3 (dk_at dksX7_leaveRow_0 1 rfl rfl)
theorem dX7_leaveRow_2 : decode cX7_leaveRow 2 = .ok (.putfield 72, 3) := dk_181 0 72 (dk_at dksX7_leaveRow_0 2 rfl rfl)
theorem dX7_leaveRow_5 : decode cX7_leaveRow 5 = .ok (.aload_n 0, 1) := dk_42 (dk_at dksX7_leaveRow_0 5 rfl rfl)
theorem dX7_leaveRow_6 : decode cX7_leaveRow 6 = .ok (.iload_n 1, 1) := dk_27 (dk_at dksX7_leaveRow_0 6 rfl rfl)
theorem dX7_leaveRow_7 : decode cX7_leaveRow 7 = .ok (.invokevirtual 383, 3) := dk_182 1 127 (dk_at dksX7_leaveRow_0 7 rfl rfl)
theorem dX7_leaveRow_10 : decode cX7_leaveRow 10 = .ok (.ifCond .ne 25, 3) := dk_154 0 25 (dk_at dksX7_leaveRow_0 10 rfl rfl)
theorem dX7_leaveRow_13 : decode cX7_leaveRow 13 = .ok (.aload_n 0, 1) := dk_42 (dk_at dksX7_leaveRow_0 13 rfl rfl)
theorem dX7_leaveRow_14 : decode cX7_leaveRow 14 = .ok (.aload_n 0, 1) := dk_42 (dk_at dksX7_leaveRow_0 14 rfl rfl)
theorem dX7_leaveRow_15 : decode cX7_leaveRow 15 = .ok (.iload_n 1, 1) := dk_27 (dk_at dksX7_leaveRow_0 15 rfl rfl)
theorem dX7_leaveRow_16 : decode cX7_leaveRow 16 = .ok (.invokevirtual 127, 3) := dk_182 0 127 (dk_at dksX7_leaveRow_0 16 rfl rfl)
theorem dX7_leaveRow_19 : decode cX7_leaveRow 19 = .ok (.iconst (-1), 1) := dk_2 (dk_at dksX7_leaveRow_0 19 rfl rfl)
theorem dX7_leaveRow_20 : decode cX7_leaveRow 20 = .ok (.if_icmp .ne 7, 3) := dk_160 0 7 (dk_at dksX7_leaveRow_0 20 rfl rfl)
theorem dX7_leaveRow_23 : decode cX7_leaveRow 23 = .ok (.iconst 1, 1) := dk_4 (dk_at dksX7_leaveRow_0 23 rfl rfl)
theorem dX7_leaveRow_24 : decode cX7_leaveRow 24 = .ok (.goto 4, 3) := dk_167 0 4 (dk_at dksX7_leaveRow_1 0 rfl rfl)
theorem dX7_leaveRow_27 : decode cX7_leaveRow 27 = .ok (.iconst 0, 1) := dk_3 (dk_at dksX7_leaveRow_1 3 rfl rfl)
theorem dX7_leaveRow_28 : decode cX7_leaveRow 28 = .ok (.iconst 2, 1) := dk_5 (dk_at dksX7_leaveRow_1 4 rfl rfl)
theorem dX7_leaveRow_29 : decode cX7_leaveRow 29 = .ok (.invokevirtual 136, 3) := dk_182 0 136 (dk_at dksX7_leaveRow_1 5 rfl rfl)
theorem dX7_leaveRow_32 : decode cX7_leaveRow 32 = .ok (.ifCond .eq 5, 3) := dk_153 0 5 (dk_at dksX7_leaveRow_1 8 rfl rfl)
theorem dX7_leaveRow_35 : decode cX7_leaveRow 35 = .ok (.iconst 0, 1) := dk_3 (dk_at dksX7_leaveRow_1 11 rfl rfl)
theorem dX7_leaveRow_36 : decode cX7_leaveRow 36 = .ok (.ireturn, 1) := dk_172 (dk_at dksX7_leaveRow_1 12 rfl rfl)
theorem dX7_leaveRow_37 : decode cX7_leaveRow 37 = .ok (.aload_n 0, 1) := dk_42 (dk_at dksX7_leaveRow_1 13 rfl rfl)
theorem dX7_leaveRow_38 : decode cX7_leaveRow 38 = .ok (.invokevirtual 380, 3) := dk_182 1 124 (dk_at dksX7_leaveRow_1 14 rfl rfl)
theorem dX7_leaveRow_41 : decode cX7_leaveRow 41 = .ok (.aload_n 0, 1) := dk_42 (dk_at dksX7_leaveRow_1 17 rfl rfl)
theorem dX7_leaveRow_42 : decode cX7_leaveRow 42 = .ok (.iload_n 1, 1) := dk_27 (dk_at dksX7_leaveRow_1 18 rfl rfl)
theorem dX7_leaveRow_43 : decode cX7_leaveRow 43 = .ok (.invokevirtual 300, 3) := dk_182 1 44 (dk_at dksX7_leaveRow_1 19 rfl rfl)
theorem dX7_leaveRow_46 : decode cX7_leaveRow 46 = .ok (.ireturn, 1) := dk_172 (dk_at dksX7_leaveRow_1 22 rfl rfl)
abbrev iX7_leaveRow : xM := (yX7_leaveRow, cX7_leaveRow, 2, (some .int), [])
theorem mX7_leaveRow : xOkM iX7_leaveRow := ⟨by decide +kernel, by decide, q3967, q175⟩
abbrev cX7_joinRow : ByteArray := prog_15_method_87_code
def yX7_joinRow : MethodName := ⟨RX7, "joinRow", "(I)I"⟩
def dkwX7_joinRow_1 : List UInt8 := [167, 0, 4, 3, 5, 182, 0, 136, 153, 0, 5, 3, 172, 42, 182, 1, 124, 42, 27, 182, 1, 47, 172]
abbrev dktX7_joinRow_1 : List UInt8 := dkwX7_joinRow_1 ++ []
def dkwX7_joinRow_0 : List UInt8 := [42, 3, 181, 0, 72, 42, 27, 182, 1, 127, 154, 0, 25, 42, 42, 27, 182, 0, 127, 2, 159, 0, 7, 4]
abbrev dktX7_joinRow_0 : List UInt8 := dkwX7_joinRow_0 ++ dktX7_joinRow_1
theorem dksX7_joinRow_0 : cX7_joinRow.data.toList.drop 0 = dktX7_joinRow_0 := by decide +kernel
theorem dksX7_joinRow_1 : cX7_joinRow.data.toList.drop 24 = dktX7_joinRow_1 := dk_seg dksX7_joinRow_0 24 rfl rfl
theorem dX7_joinRow_0 : decode cX7_joinRow 0 = .ok (.aload_n 0, 1) := dk_42 (dk_at dksX7_joinRow_0 0 rfl rfl)
theorem dX7_joinRow_1 : decode cX7_joinRow 1 = .ok (.iconst 0, 1) := dk_3 (dk_at dksX7_joinRow_0 1 rfl rfl)
theorem dX7_joinRow_2 : decode cX7_joinRow 2 = .ok (.putfield 72, 3) := dk_181 0 72 (dk_at dksX7_joinRow_0 2 rfl rfl)
theorem dX7_joinRow_5 : decode cX7_joinRow 5 = .ok (.aload_n 0, 1) := dk_42 (dk_at dksX7_joinRow_0 5 rfl rfl)
theorem dX7_joinRow_6 : decode cX7_joinRow 6 = .ok (.iload_n 1, 1) := dk_27 (dk_at dksX7_joinRow_0 6 rfl rfl)
theorem dX7_joinRow_7 : decode cX7_joinRow 7 = .ok (.invokevirtual 383, 3) := dk_182 1 127 (dk_at dksX7_joinRow_0 7 rfl rfl)
theorem dX7_joinRow_10 : decode cX7_joinRow 10 = .ok (.ifCond .ne 25, 3) := dk_154 0 25 (dk_at dksX7_joinRow_0 10 rfl rfl)
theorem dX7_joinRow_13 : decode cX7_joinRow 13 = .ok (.aload_n 0, 1) := dk_42 (dk_at dksX7_joinRow_0 13 rfl rfl)
theorem dX7_joinRow_14 : decode cX7_joinRow 14 = .ok (.aload_n 0, 1) := dk_42 (dk_at dksX7_joinRow_0 14 rfl rfl)
theorem dX7_joinRow_15 : decode cX7_joinRow 15 = .ok (.iload_n 1, 1) := dk_27 (dk_at dksX7_joinRow_0 15 rfl rfl)
theorem dX7_joinRow_16 : decode cX7_joinRow 16 = .ok (.invokevirtual 127, 3) := dk_182 0 127 (dk_at dksX7_joinRow_0 16 rfl rfl)
theorem dX7_joinRow_19 : decode cX7_joinRow 19 = .ok (.iconst (-1), 1) := dk_2 (dk_at dksX7_joinRow_0 19 rfl rfl)
theorem dX7_joinRow_20 : decode cX7_joinRow 20 = .ok (.if_icmp .eq 7, 3) := dk_159 0 7 (dk_at dksX7_joinRow_0 20 rfl rfl)
theorem dX7_joinRow_23 : decode cX7_joinRow 23 = .ok (.iconst 1, 1) := dk_4 (dk_at dksX7_joinRow_0 23 rfl rfl)
theorem dX7_joinRow_24 : decode cX7_joinRow 24 = .ok (.goto 4, 3) := dk_167 0 4 (dk_at dksX7_joinRow_1 0 rfl rfl)
theorem dX7_joinRow_27 : decode cX7_joinRow 27 = .ok (.iconst 0, 1) := dk_3 (dk_at dksX7_joinRow_1 3 rfl rfl)
theorem dX7_joinRow_28 : decode cX7_joinRow 28 = .ok (.iconst 2, 1) := dk_5 (dk_at dksX7_joinRow_1 4 rfl rfl)
theorem dX7_joinRow_29 : decode cX7_joinRow 29 = .ok (.invokevirtual 136, 3) := dk_182 0 136 (dk_at dksX7_joinRow_1 5 rfl rfl)
theorem dX7_joinRow_32 : decode cX7_joinRow 32 = .ok (.ifCond .eq 5, 3) := dk_153 0 5 (dk_at dksX7_joinRow_1 8 rfl rfl)
theorem dX7_joinRow_35 : decode cX7_joinRow 35 = .ok (.iconst 0, 1) := dk_3 (dk_at dksX7_joinRow_1 11 rfl rfl)
theorem dX7_joinRow_36 : decode cX7_joinRow 36 = .ok (.ireturn, 1) := dk_172 (dk_at dksX7_joinRow_1 12 rfl rfl)
theorem dX7_joinRow_37 : decode cX7_joinRow 37 = .ok (.aload_n 0, 1) := dk_42 (dk_at dksX7_joinRow_1 13 rfl rfl)
theorem dX7_joinRow_38 : decode cX7_joinRow 38 = .ok (.invokevirtual 380, 3) := dk_182 1 124 (dk_at dksX7_joinRow_1 14 rfl rfl)
theorem dX7_joinRow_41 : decode cX7_joinRow 41 = .ok (.aload_n 0, 1) := dk_42 (dk_at dksX7_joinRow_1 17 rfl rfl)
theorem dX7_joinRow_42 : decode cX7_joinRow 42 = .ok (.iload_n 1, 1) := dk_27 (dk_at dksX7_joinRow_1 18 rfl rfl)
theorem dX7_joinRow_43 : decode cX7_joinRow 43 = .ok (.invokevirtual 303, 3) := dk_182 1 47 (dk_at dksX7_joinRow_1 19 rfl rfl)
theorem dX7_joinRow_46 : decode cX7_joinRow 46 = .ok (.ireturn, 1) := dk_172 (dk_at dksX7_joinRow_1 22 rfl rfl)
abbrev iX7_joinRow : xM := (yX7_joinRow, cX7_joinRow, 2, (some .int), [])
theorem mX7_joinRow : xOkM iX7_joinRow := ⟨by decide +kernel, by decide, q3971, q175⟩
abbrev cX7_setTarget : ByteArray := prog_15_method_88_code
def yX7_setTarget : MethodName := ⟨RX7, "setTarget", "(I)I"⟩
def dkwX7_setTarget_1 : List UInt8 := [182, 0, 136, 153, 0, 5, 3, 172, 42, 182, 1, 124, 42, 27, 182, 1, 83, 172]
abbrev dktX7_setTarget_1 : List UInt8 := dkwX7_setTarget_1 ++ []
def dkwX7_setTarget_0 : List UInt8 := [42, 3, 181, 0, 72, 42, 27, 133, 9, 20, 1, 139, 184, 0, 144, 154, 0, 7, 4, 167, 0, 4, 3, 4]
abbrev dktX7_setTarget_0 : List UInt8 := dkwX7_setTarget_0 ++ dktX7_setTarget_1
theorem dksX7_setTarget_0 : cX7_setTarget.data.toList.drop 0 = dktX7_setTarget_0 := by decide +kernel
theorem dksX7_setTarget_1 : cX7_setTarget.data.toList.drop 24 = dktX7_setTarget_1 := dk_seg dksX7_setTarget_0 24 rfl rfl
theorem dX7_setTarget_0 : decode cX7_setTarget 0 = .ok (.aload_n 0, 1) := dk_42 (dk_at dksX7_setTarget_0 0 rfl rfl)
theorem dX7_setTarget_1 : decode cX7_setTarget 1 = .ok (.iconst 0, 1) := dk_3 (dk_at dksX7_setTarget_0 1 rfl rfl)
theorem dX7_setTarget_2 : decode cX7_setTarget 2 = .ok (.putfield 72, 3) := dk_181 0 72 (dk_at dksX7_setTarget_0 2 rfl rfl)
theorem dX7_setTarget_5 : decode cX7_setTarget 5 = .ok (.aload_n 0, 1) := dk_42 (dk_at dksX7_setTarget_0 5 rfl rfl)
theorem dX7_setTarget_6 : decode cX7_setTarget 6 = .ok (.iload_n 1, 1) := dk_27 (dk_at dksX7_setTarget_0 6 rfl rfl)
theorem dX7_setTarget_7 : decode cX7_setTarget 7 = .ok (.i2l, 1) := dk_133 (dk_at dksX7_setTarget_0 7 rfl rfl)
theorem dX7_setTarget_8 : decode cX7_setTarget 8 = .ok (.lconst 0, 1) := dk_9 (dk_at dksX7_setTarget_0 8 rfl rfl)
theorem dX7_setTarget_9 : decode cX7_setTarget 9 = .ok (.ldc2_w 395, 3) := dk_20 1 139 (dk_at dksX7_setTarget_0 9 rfl rfl)
theorem dX7_setTarget_12 : decode cX7_setTarget 12 = .ok (.invokestatic 144, 3) := dk_184 0 144 (dk_at dksX7_setTarget_0 12 rfl rfl)
theorem dX7_setTarget_15 : decode cX7_setTarget 15 = .ok (.ifCond .ne 7, 3) := dk_154 0 7 (dk_at dksX7_setTarget_0 15 rfl rfl)
theorem dX7_setTarget_18 : decode cX7_setTarget 18 = .ok (.iconst 1, 1) := dk_4 (dk_at dksX7_setTarget_0 18 rfl rfl)
theorem dX7_setTarget_19 : decode cX7_setTarget 19 = .ok (.goto 4, 3) := dk_167 0 4 (dk_at dksX7_setTarget_0 19 rfl rfl)
theorem dX7_setTarget_22 : decode cX7_setTarget 22 = .ok (.iconst 0, 1) := dk_3 (dk_at dksX7_setTarget_0 22 rfl rfl)
theorem dX7_setTarget_23 : decode cX7_setTarget 23 = .ok (.iconst 1, 1) := dk_4 (dk_at dksX7_setTarget_0 23 rfl rfl)
theorem dX7_setTarget_24 : decode cX7_setTarget 24 = .ok (.invokevirtual 136, 3) := dk_182 0 136 (dk_at dksX7_setTarget_1 0 rfl rfl)
theorem dX7_setTarget_27 : decode cX7_setTarget 27 = .ok (.ifCond .eq 5, 3) := dk_153 0 5 (dk_at dksX7_setTarget_1 3 rfl rfl)
theorem dX7_setTarget_30 : decode cX7_setTarget 30 = .ok (.iconst 0, 1) := dk_3 (dk_at dksX7_setTarget_1 6 rfl rfl)
theorem dX7_setTarget_31 : decode cX7_setTarget 31 = .ok (.ireturn, 1) := dk_172 (dk_at dksX7_setTarget_1 7 rfl rfl)
theorem dX7_setTarget_32 : decode cX7_setTarget 32 = .ok (.aload_n 0, 1) := dk_42 (dk_at dksX7_setTarget_1 8 rfl rfl)
theorem dX7_setTarget_33 : decode cX7_setTarget 33 = .ok (.invokevirtual 380, 3) := dk_182 1 124 (dk_at dksX7_setTarget_1 9 rfl rfl)
theorem dX7_setTarget_36 : decode cX7_setTarget 36 = .ok (.aload_n 0, 1) := dk_42 (dk_at dksX7_setTarget_1 12 rfl rfl)
theorem dX7_setTarget_37 : decode cX7_setTarget 37 = .ok (.iload_n 1, 1) := dk_27 (dk_at dksX7_setTarget_1 13 rfl rfl)
theorem dX7_setTarget_38 : decode cX7_setTarget 38 = .ok (.invokevirtual 339, 3) := dk_182 1 83 (dk_at dksX7_setTarget_1 14 rfl rfl)
theorem dX7_setTarget_41 : decode cX7_setTarget 41 = .ok (.ireturn, 1) := dk_172 (dk_at dksX7_setTarget_1 17 rfl rfl)
abbrev iX7_setTarget : xM := (yX7_setTarget, cX7_setTarget, 2, (some .int), [])
theorem mX7_setTarget : xOkM iX7_setTarget := ⟨by decide +kernel, by decide, q3975, q175⟩
abbrev cX7_passHours : ByteArray := prog_15_method_89_code
def yX7_passHours : MethodName := ⟨RX7, "passHours", "(I)I"⟩
def dkwX7_passHours_2 : List UInt8 := [167, 0, 4, 3, 5, 182, 0, 136, 153, 0, 5, 3, 172, 42, 182, 1, 124, 42, 27, 182, 1, 86, 172]
abbrev dktX7_passHours_2 : List UInt8 := dkwX7_passHours_2 ++ []
def dkwX7_passHours_1 : List UInt8 := [182, 0, 136, 154, 0, 30, 42, 42, 180, 0, 7, 3, 46, 27, 96, 17, 39, 15, 164, 0, 7, 4]
abbrev dktX7_passHours_1 : List UInt8 := dkwX7_passHours_1 ++ dktX7_passHours_2
def dkwX7_passHours_0 : List UInt8 := [42, 3, 181, 0, 72, 42, 27, 133, 10, 20, 0, 155, 184, 0, 144, 154, 0, 7, 4, 167, 0, 4, 3, 4]
abbrev dktX7_passHours_0 : List UInt8 := dkwX7_passHours_0 ++ dktX7_passHours_1
theorem dksX7_passHours_0 : cX7_passHours.data.toList.drop 0 = dktX7_passHours_0 := by decide +kernel
theorem dksX7_passHours_1 : cX7_passHours.data.toList.drop 24 = dktX7_passHours_1 := dk_seg dksX7_passHours_0 24 rfl rfl
theorem dksX7_passHours_2 : cX7_passHours.data.toList.drop 46 = dktX7_passHours_2 := dk_seg dksX7_passHours_1 22 rfl rfl
theorem dX7_passHours_0 : decode cX7_passHours 0 = .ok (.aload_n 0, 1) := dk_42 (dk_at dksX7_passHours_0 0 rfl rfl)
theorem dX7_passHours_1 : decode cX7_passHours 1 = .ok (.iconst 0, 1) := dk_3 (dk_at dksX7_passHours_0 1 rfl rfl)
theorem dX7_passHours_2 : decode cX7_passHours 2 = .ok (.putfield 72, 3) := dk_181 0 72 (dk_at dksX7_passHours_0 2 rfl rfl)
theorem dX7_passHours_5 : decode cX7_passHours 5 = .ok (.aload_n 0, 1) := dk_42 (dk_at dksX7_passHours_0 5 rfl rfl)
theorem dX7_passHours_6 : decode cX7_passHours 6 = .ok (.iload_n 1, 1) := dk_27 (dk_at dksX7_passHours_0 6 rfl rfl)
theorem dX7_passHours_7 : decode cX7_passHours 7 = .ok (.i2l, 1) := dk_133 (dk_at dksX7_passHours_0 7 rfl rfl)
theorem dX7_passHours_8 : decode cX7_passHours 8 = .ok (.lconst 1, 1) := dk_10 (dk_at dksX7_passHours_0 8 rfl rfl)
theorem dX7_passHours_9 : decode cX7_passHours 9 = .ok (.ldc2_w 155, 3) := dk_20 0 155 (dk_at dksX7_passHours_0 9 rfl rfl)
theorem dX7_passHours_12 : decode cX7_passHours 12 = .ok (.invokestatic 144, 3) := dk_184 0 144 (dk_at dksX7_passHours_0 12 rfl rfl)
theorem dX7_passHours_15 : decode cX7_passHours 15 = .ok (.ifCond .ne 7, 3) := dk_154 0 7 (dk_at dksX7_passHours_0 15 rfl rfl)
theorem dX7_passHours_18 : decode cX7_passHours 18 = .ok (.iconst 1, 1) := dk_4 (dk_at dksX7_passHours_0 18 rfl rfl)
theorem dX7_passHours_19 : decode cX7_passHours 19 = .ok (.goto 4, 3) := dk_167 0 4 (dk_at dksX7_passHours_0 19 rfl rfl)
theorem dX7_passHours_22 : decode cX7_passHours 22 = .ok (.iconst 0, 1) := dk_3 (dk_at dksX7_passHours_0 22 rfl rfl)
theorem dX7_passHours_23 : decode cX7_passHours 23 = .ok (.iconst 1, 1) := dk_4 (dk_at dksX7_passHours_0 23 rfl rfl)
theorem dX7_passHours_24 : decode cX7_passHours 24 = .ok (.invokevirtual 136, 3) := dk_182 0 136 (dk_at dksX7_passHours_1 0 rfl rfl)
theorem dX7_passHours_27 : decode cX7_passHours 27 = .ok (.ifCond .ne 30, 3) := dk_154 0 30 (dk_at dksX7_passHours_1 3 rfl rfl)
theorem dX7_passHours_30 : decode cX7_passHours 30 = .ok (.aload_n 0, 1) := dk_42 (dk_at dksX7_passHours_1 6 rfl rfl)
theorem dX7_passHours_31 : decode cX7_passHours 31 = .ok (.aload_n 0, 1) := dk_42 (dk_at dksX7_passHours_1 7 rfl rfl)
theorem dX7_passHours_32 : decode cX7_passHours 32 = .ok (.getfield 7, 3) := dk_180 0 7 (dk_at dksX7_passHours_1 8 rfl rfl)
theorem dX7_passHours_35 : decode cX7_passHours 35 = .ok (.iconst 0, 1) := dk_3 (dk_at dksX7_passHours_1 11 rfl rfl)
theorem dX7_passHours_36 : decode cX7_passHours 36 = .ok (.iaload, 1) := dk_46 (dk_at dksX7_passHours_1 12 rfl rfl)
theorem dX7_passHours_37 : decode cX7_passHours 37 = .ok (.iload_n 1, 1) := dk_27 (dk_at dksX7_passHours_1 13 rfl rfl)
theorem dX7_passHours_38 : decode cX7_passHours 38 = .ok (.iadd, 1) := dk_96 (dk_at dksX7_passHours_1 14 rfl rfl)
theorem dX7_passHours_39 : decode cX7_passHours 39 = .ok (.sipush 9999, 3) := dk_17 39 15 (dk_at dksX7_passHours_1 15 rfl rfl)
theorem dX7_passHours_42 : decode cX7_passHours 42 = .ok (.if_icmp .le 7, 3) := dk_164 0 7 (dk_at dksX7_passHours_1 18 rfl rfl)
theorem dX7_passHours_45 : decode cX7_passHours 45 = .ok (.iconst 1, 1) := dk_4 (dk_at dksX7_passHours_1 21 rfl rfl)
theorem dX7_passHours_46 : decode cX7_passHours 46 = .ok (.goto 4, 3) := dk_167 0 4 (dk_at dksX7_passHours_2 0 rfl rfl)
theorem dX7_passHours_49 : decode cX7_passHours 49 = .ok (.iconst 0, 1) := dk_3 (dk_at dksX7_passHours_2 3 rfl rfl)
theorem dX7_passHours_50 : decode cX7_passHours 50 = .ok (.iconst 2, 1) := dk_5 (dk_at dksX7_passHours_2 4 rfl rfl)
theorem dX7_passHours_51 : decode cX7_passHours 51 = .ok (.invokevirtual 136, 3) := dk_182 0 136 (dk_at dksX7_passHours_2 5 rfl rfl)
theorem dX7_passHours_54 : decode cX7_passHours 54 = .ok (.ifCond .eq 5, 3) := dk_153 0 5 (dk_at dksX7_passHours_2 8 rfl rfl)
theorem dX7_passHours_57 : decode cX7_passHours 57 = .ok (.iconst 0, 1) := dk_3 (dk_at dksX7_passHours_2 11 rfl rfl)
theorem dX7_passHours_58 : decode cX7_passHours 58 = .ok (.ireturn, 1) := dk_172 (dk_at dksX7_passHours_2 12 rfl rfl)
theorem dX7_passHours_59 : decode cX7_passHours 59 = .ok (.aload_n 0, 1) := dk_42 (dk_at dksX7_passHours_2 13 rfl rfl)
theorem dX7_passHours_60 : decode cX7_passHours 60 = .ok (.invokevirtual 380, 3) := dk_182 1 124 (dk_at dksX7_passHours_2 14 rfl rfl)
theorem dX7_passHours_63 : decode cX7_passHours 63 = .ok (.aload_n 0, 1) := dk_42 (dk_at dksX7_passHours_2 17 rfl rfl)
theorem dX7_passHours_64 : decode cX7_passHours 64 = .ok (.iload_n 1, 1) := dk_27 (dk_at dksX7_passHours_2 18 rfl rfl)
theorem dX7_passHours_65 : decode cX7_passHours 65 = .ok (.invokevirtual 342, 3) := dk_182 1 86 (dk_at dksX7_passHours_2 19 rfl rfl)
theorem dX7_passHours_68 : decode cX7_passHours 68 = .ok (.ireturn, 1) := dk_172 (dk_at dksX7_passHours_2 22 rfl rfl)
abbrev iX7_passHours : xM := (yX7_passHours, cX7_passHours, 2, (some .int), [])
theorem mX7_passHours : xOkM iX7_passHours := ⟨by decide +kernel, by decide, q3980, q175⟩
abbrev cX7_undoCount : ByteArray := prog_15_method_90_code
def yX7_undoCount : MethodName := ⟨RX7, "undoCount", "()I"⟩
def dkwX7_undoCount_0 : List UInt8 := [42, 3, 181, 0, 72, 42, 180, 1, 3, 172]
abbrev dktX7_undoCount_0 : List UInt8 := dkwX7_undoCount_0 ++ []
theorem dksX7_undoCount_0 : cX7_undoCount.data.toList.drop 0 = dktX7_undoCount_0 := by decide +kernel
theorem dX7_undoCount_0 : decode cX7_undoCount 0 = .ok (.aload_n 0, 1) := dk_42 (dk_at dksX7_undoCount_0 0 rfl rfl)
theorem dX7_undoCount_1 : decode cX7_undoCount 1 = .ok (.iconst 0, 1) := dk_3 (dk_at dksX7_undoCount_0 1 rfl rfl)
theorem dX7_undoCount_2 : decode cX7_undoCount 2 = .ok (.putfield 72, 3) := dk_181 0 72 (dk_at dksX7_undoCount_0 2 rfl rfl)
theorem dX7_undoCount_5 : decode cX7_undoCount 5 = .ok (.aload_n 0, 1) := dk_42 (dk_at dksX7_undoCount_0 5 rfl rfl)
theorem dX7_undoCount_6 : decode cX7_undoCount 6 = .ok (.getfield 259, 3) := dk_180 1 3 (dk_at dksX7_undoCount_0 6 rfl rfl)
theorem dX7_undoCount_9 : decode cX7_undoCount 9 = .ok (.ireturn, 1) := dk_172 (dk_at dksX7_undoCount_0 9 rfl rfl)
abbrev iX7_undoCount : xM := (yX7_undoCount, cX7_undoCount, 1, (some .int), [])
theorem mX7_undoCount : xOkM iX7_undoCount := ⟨by decide +kernel, by decide, q3984, q175⟩
abbrev cX7_undo : ByteArray := prog_15_method_91_code
def yX7_undo : MethodName := ⟨RX7, "undo", "()I"⟩
def dkwX7_undo_2 : List UInt8 := [180, 1, 3, 104, 42, 180, 0, 7, 3, 184, 0, 246, 42, 180, 1, 3, 172]
abbrev dktX7_undo_2 : List UInt8 := dkwX7_undo_2 ++ []
def dkwX7_undo_1 : List UInt8 := [153, 0, 5, 3, 172, 42, 89, 180, 1, 3, 4, 100, 181, 1, 3, 42, 180, 0, 16, 17, 1, 24, 42]
abbrev dktX7_undo_1 : List UInt8 := dkwX7_undo_1 ++ dktX7_undo_2
def dkwX7_undo_0 : List UInt8 := [42, 3, 181, 0, 72, 42, 42, 180, 1, 3, 154, 0, 7, 4, 167, 0, 4, 3, 4, 182, 0, 136]
abbrev dktX7_undo_0 : List UInt8 := dkwX7_undo_0 ++ dktX7_undo_1
theorem dksX7_undo_0 : cX7_undo.data.toList.drop 0 = dktX7_undo_0 := by decide +kernel
theorem dksX7_undo_1 : cX7_undo.data.toList.drop 22 = dktX7_undo_1 := dk_seg dksX7_undo_0 22 rfl rfl
theorem dksX7_undo_2 : cX7_undo.data.toList.drop 45 = dktX7_undo_2 := dk_seg dksX7_undo_1 23 rfl rfl
theorem dX7_undo_0 : decode cX7_undo 0 = .ok (.aload_n 0, 1) := dk_42 (dk_at dksX7_undo_0 0 rfl rfl)
theorem dX7_undo_1 : decode cX7_undo 1 = .ok (.iconst 0, 1) := dk_3 (dk_at dksX7_undo_0 1 rfl rfl)
theorem dX7_undo_2 : decode cX7_undo 2 = .ok (.putfield 72, 3) := dk_181 0 72 (dk_at dksX7_undo_0 2 rfl rfl)
theorem dX7_undo_5 : decode cX7_undo 5 = .ok (.aload_n 0, 1) := dk_42 (dk_at dksX7_undo_0 5 rfl rfl)
theorem dX7_undo_6 : decode cX7_undo 6 = .ok (.aload_n 0, 1) := dk_42 (dk_at dksX7_undo_0 6 rfl rfl)
theorem dX7_undo_7 : decode cX7_undo 7 = .ok (.getfield 259, 3) := dk_180 1 3 (dk_at dksX7_undo_0 7 rfl rfl)
theorem dX7_undo_10 : decode cX7_undo 10 = .ok (.ifCond .ne 7, 3) := dk_154 0 7 (dk_at dksX7_undo_0 10 rfl rfl)
theorem dX7_undo_13 : decode cX7_undo 13 = .ok (.iconst 1, 1) := dk_4 (dk_at dksX7_undo_0 13 rfl rfl)
theorem dX7_undo_14 : decode cX7_undo 14 = .ok (.goto 4, 3) := dk_167 0 4 (dk_at dksX7_undo_0 14 rfl rfl)
theorem dX7_undo_17 : decode cX7_undo 17 = .ok (.iconst 0, 1) := dk_3 (dk_at dksX7_undo_0 17 rfl rfl)
theorem dX7_undo_18 : decode cX7_undo 18 = .ok (.iconst 1, 1) := dk_4 (dk_at dksX7_undo_0 18 rfl rfl)
theorem dX7_undo_19 : decode cX7_undo 19 = .ok (.invokevirtual 136, 3) := dk_182 0 136 (dk_at dksX7_undo_0 19 rfl rfl)
theorem dX7_undo_22 : decode cX7_undo 22 = .ok (.ifCond .eq 5, 3) := dk_153 0 5 (dk_at dksX7_undo_1 0 rfl rfl)
theorem dX7_undo_25 : decode cX7_undo 25 = .ok (.iconst 0, 1) := dk_3 (dk_at dksX7_undo_1 3 rfl rfl)
theorem dX7_undo_26 : decode cX7_undo 26 = .ok (.ireturn, 1) := dk_172 (dk_at dksX7_undo_1 4 rfl rfl)
theorem dX7_undo_27 : decode cX7_undo 27 = .ok (.aload_n 0, 1) := dk_42 (dk_at dksX7_undo_1 5 rfl rfl)
theorem dX7_undo_28 : decode cX7_undo 28 = .ok (.dup, 1) := dk_89 (dk_at dksX7_undo_1 6 rfl rfl)
theorem dX7_undo_29 : decode cX7_undo 29 = .ok (.getfield 259, 3) := dk_180 1 3 (dk_at dksX7_undo_1 7 rfl rfl)
theorem dX7_undo_32 : decode cX7_undo 32 = .ok (.iconst 1, 1) := dk_4 (dk_at dksX7_undo_1 10 rfl rfl)
theorem dX7_undo_33 : decode cX7_undo 33 = .ok (.isub, 1) := dk_100 (dk_at dksX7_undo_1 11 rfl rfl)
theorem dX7_undo_34 : decode cX7_undo 34 = .ok (.putfield 259, 3) := dk_181 1 3 (dk_at dksX7_undo_1 12 rfl rfl)
theorem dX7_undo_37 : decode cX7_undo 37 = .ok (.aload_n 0, 1) := dk_42 (dk_at dksX7_undo_1 15 rfl rfl)
theorem dX7_undo_38 : decode cX7_undo 38 = .ok (.getfield 16, 3) := dk_180 0 16 (dk_at dksX7_undo_1 16 rfl rfl)
theorem dX7_undo_41 : decode cX7_undo 41 = .ok (.sipush 280, 3) := dk_17 1 24 (dk_at dksX7_undo_1 19 rfl rfl)
theorem dX7_undo_44 : decode cX7_undo 44 = .ok (.aload_n 0, 1) := dk_42 (dk_at dksX7_undo_1 22 rfl rfl)
theorem dX7_undo_45 : decode cX7_undo 45 = .ok (.getfield 259, 3) := dk_180 1 3 (dk_at dksX7_undo_2 0 rfl rfl)
theorem dX7_undo_48 : decode cX7_undo 48 = .ok (.imul, 1) := dk_104 (dk_at dksX7_undo_2 3 rfl rfl)
theorem dX7_undo_49 : decode cX7_undo 49 = .ok (.aload_n 0, 1) := dk_42 (dk_at dksX7_undo_2 4 rfl rfl)
theorem dX7_undo_50 : decode cX7_undo 50 = .ok (.getfield 7, 3) := dk_180 0 7 (dk_at dksX7_undo_2 5 rfl rfl)
theorem dX7_undo_53 : decode cX7_undo 53 = .ok (.iconst 0, 1) := dk_3 (dk_at dksX7_undo_2 8 rfl rfl)
theorem dX7_undo_54 : decode cX7_undo 54 = .ok (.invokestatic 246, 3) := dk_184 0 246 (dk_at dksX7_undo_2 9 rfl rfl)
theorem dX7_undo_57 : decode cX7_undo 57 = .ok (.aload_n 0, 1) := dk_42 (dk_at dksX7_undo_2 12 rfl rfl)
theorem dX7_undo_58 : decode cX7_undo 58 = .ok (.getfield 259, 3) := dk_180 1 3 (dk_at dksX7_undo_2 13 rfl rfl)
theorem dX7_undo_61 : decode cX7_undo 61 = .ok (.ireturn, 1) := dk_172 (dk_at dksX7_undo_2 16 rfl rfl)
abbrev iX7_undo : xM := (yX7_undo, cX7_undo, 1, (some .int), [])
theorem mX7_undo : xOkM iX7_undo := ⟨by decide +kernel, by decide, q3988, q175⟩
abbrev cX7_save : ByteArray := prog_15_method_93_code
def yX7_save : MethodName := ⟨RX7, "save", "(I)I"⟩
def dkwX7_save_1 : List UInt8 := [17, 1, 24, 27, 104, 184, 0, 246, 42, 180, 0, 22, 27, 4, 84, 42, 180, 0, 7, 3, 46, 172]
abbrev dktX7_save_1 : List UInt8 := dkwX7_save_1 ++ []
def dkwX7_save_0 : List UInt8 := [42, 3, 181, 0, 72, 42, 27, 182, 1, 141, 153, 0, 5, 3, 172, 42, 180, 0, 7, 3, 42, 180, 0, 19]
abbrev dktX7_save_0 : List UInt8 := dkwX7_save_0 ++ dktX7_save_1
theorem dksX7_save_0 : cX7_save.data.toList.drop 0 = dktX7_save_0 := by decide +kernel
theorem dksX7_save_1 : cX7_save.data.toList.drop 24 = dktX7_save_1 := dk_seg dksX7_save_0 24 rfl rfl
theorem dX7_save_0 : decode cX7_save 0 = .ok (.aload_n 0, 1) := dk_42 (dk_at dksX7_save_0 0 rfl rfl)
theorem dX7_save_1 : decode cX7_save 1 = .ok (.iconst 0, 1) := dk_3 (dk_at dksX7_save_0 1 rfl rfl)
theorem dX7_save_2 : decode cX7_save 2 = .ok (.putfield 72, 3) := dk_181 0 72 (dk_at dksX7_save_0 2 rfl rfl)
theorem dX7_save_5 : decode cX7_save 5 = .ok (.aload_n 0, 1) := dk_42 (dk_at dksX7_save_0 5 rfl rfl)
theorem dX7_save_6 : decode cX7_save 6 = .ok (.iload_n 1, 1) := dk_27 (dk_at dksX7_save_0 6 rfl rfl)
theorem dX7_save_7 : decode cX7_save 7 = .ok (.invokevirtual 397, 3) := dk_182 1 141 (dk_at dksX7_save_0 7 rfl rfl)
theorem dX7_save_10 : decode cX7_save 10 = .ok (.ifCond .eq 5, 3) := dk_153 0 5 (dk_at dksX7_save_0 10 rfl rfl)
theorem dX7_save_13 : decode cX7_save 13 = .ok (.iconst 0, 1) := dk_3 (dk_at dksX7_save_0 13 rfl rfl)
theorem dX7_save_14 : decode cX7_save 14 = .ok (.ireturn, 1) := dk_172 (dk_at dksX7_save_0 14 rfl rfl)
theorem dX7_save_15 : decode cX7_save 15 = .ok (.aload_n 0, 1) := dk_42 (dk_at dksX7_save_0 15 rfl rfl)
theorem dX7_save_16 : decode cX7_save 16 = .ok (.getfield 7, 3) := dk_180 0 7 (dk_at dksX7_save_0 16 rfl rfl)
theorem dX7_save_19 : decode cX7_save 19 = .ok (.iconst 0, 1) := dk_3 (dk_at dksX7_save_0 19 rfl rfl)
theorem dX7_save_20 : decode cX7_save 20 = .ok (.aload_n 0, 1) := dk_42 (dk_at dksX7_save_0 20 rfl rfl)
theorem dX7_save_21 : decode cX7_save 21 = .ok (.getfield 19, 3) := dk_180 0 19 (dk_at dksX7_save_0 21 rfl rfl)
theorem dX7_save_24 : decode cX7_save 24 = .ok (.sipush 280, 3) := dk_17 1 24 (dk_at dksX7_save_1 0 rfl rfl)
theorem dX7_save_27 : decode cX7_save 27 = .ok (.iload_n 1, 1) := dk_27 (dk_at dksX7_save_1 3 rfl rfl)
theorem dX7_save_28 : decode cX7_save 28 = .ok (.imul, 1) := dk_104 (dk_at dksX7_save_1 4 rfl rfl)
theorem dX7_save_29 : decode cX7_save 29 = .ok (.invokestatic 246, 3) := dk_184 0 246 (dk_at dksX7_save_1 5 rfl rfl)
theorem dX7_save_32 : decode cX7_save 32 = .ok (.aload_n 0, 1) := dk_42 (dk_at dksX7_save_1 8 rfl rfl)
theorem dX7_save_33 : decode cX7_save 33 = .ok (.getfield 22, 3) := dk_180 0 22 (dk_at dksX7_save_1 9 rfl rfl)
theorem dX7_save_36 : decode cX7_save 36 = .ok (.iload_n 1, 1) := dk_27 (dk_at dksX7_save_1 12 rfl rfl)
theorem dX7_save_37 : decode cX7_save 37 = .ok (.iconst 1, 1) := dk_4 (dk_at dksX7_save_1 13 rfl rfl)
theorem dX7_save_38 : decode cX7_save 38 = .ok (.bastore, 1) := dk_84 (dk_at dksX7_save_1 14 rfl rfl)
theorem dX7_save_39 : decode cX7_save 39 = .ok (.aload_n 0, 1) := dk_42 (dk_at dksX7_save_1 15 rfl rfl)
theorem dX7_save_40 : decode cX7_save 40 = .ok (.getfield 7, 3) := dk_180 0 7 (dk_at dksX7_save_1 16 rfl rfl)
theorem dX7_save_43 : decode cX7_save 43 = .ok (.iconst 0, 1) := dk_3 (dk_at dksX7_save_1 19 rfl rfl)
theorem dX7_save_44 : decode cX7_save 44 = .ok (.iaload, 1) := dk_46 (dk_at dksX7_save_1 20 rfl rfl)
theorem dX7_save_45 : decode cX7_save 45 = .ok (.ireturn, 1) := dk_172 (dk_at dksX7_save_1 21 rfl rfl)
abbrev iX7_save : xM := (yX7_save, cX7_save, 2, (some .int), [])
theorem mX7_save : xOkM iX7_save := ⟨by decide +kernel, by decide, q3992, q175⟩
abbrev cX7_noSlot : ByteArray := prog_15_method_92_code
def yX7_noSlot : MethodName := ⟨RX7, "noSlot", "(I)Z"⟩
def dkwX7_noSlot_0 : List UInt8 := [42, 27, 133, 9, 10, 184, 0, 144, 154, 0, 7, 4, 167, 0, 4, 3, 4, 182, 0, 136, 172]
abbrev dktX7_noSlot_0 : List UInt8 := dkwX7_noSlot_0 ++ []
theorem dksX7_noSlot_0 : cX7_noSlot.data.toList.drop 0 = dktX7_noSlot_0 := by decide +kernel
theorem dX7_noSlot_0 : decode cX7_noSlot 0 = .ok (.aload_n 0, 1) := dk_42 (dk_at dksX7_noSlot_0 0 rfl rfl)
theorem dX7_noSlot_1 : decode cX7_noSlot 1 = .ok (.iload_n 1, 1) := dk_27 (dk_at dksX7_noSlot_0 1 rfl rfl)
theorem dX7_noSlot_2 : decode cX7_noSlot 2 = .ok (.i2l, 1) := dk_133 (dk_at dksX7_noSlot_0 2 rfl rfl)
theorem dX7_noSlot_3 : decode cX7_noSlot 3 = .ok (.lconst 0, 1) := dk_9 (dk_at dksX7_noSlot_0 3 rfl rfl)
theorem dX7_noSlot_4 : decode cX7_noSlot 4 = .ok (.lconst 1, 1) := dk_10 (dk_at dksX7_noSlot_0 4 rfl rfl)
theorem dX7_noSlot_5 : decode cX7_noSlot 5 = .ok (.invokestatic 144, 3) := dk_184 0 144 (dk_at dksX7_noSlot_0 5 rfl rfl)
theorem dX7_noSlot_8 : decode cX7_noSlot 8 = .ok (.ifCond .ne 7, 3) := dk_154 0 7 (dk_at dksX7_noSlot_0 8 rfl rfl)
theorem dX7_noSlot_11 : decode cX7_noSlot 11 = .ok (.iconst 1, 1) := dk_4 (dk_at dksX7_noSlot_0 11 rfl rfl)
theorem dX7_noSlot_12 : decode cX7_noSlot 12 = .ok (.goto 4, 3) := dk_167 0 4 (dk_at dksX7_noSlot_0 12 rfl rfl)
theorem dX7_noSlot_15 : decode cX7_noSlot 15 = .ok (.iconst 0, 1) := dk_3 (dk_at dksX7_noSlot_0 15 rfl rfl)
theorem dX7_noSlot_16 : decode cX7_noSlot 16 = .ok (.iconst 1, 1) := dk_4 (dk_at dksX7_noSlot_0 16 rfl rfl)
theorem dX7_noSlot_17 : decode cX7_noSlot 17 = .ok (.invokevirtual 136, 3) := dk_182 0 136 (dk_at dksX7_noSlot_0 17 rfl rfl)
theorem dX7_noSlot_20 : decode cX7_noSlot 20 = .ok (.ireturn, 1) := dk_172 (dk_at dksX7_noSlot_0 20 rfl rfl)
abbrev iX7_noSlot : xM := (yX7_noSlot, cX7_noSlot, 2, (some .boolean), [])
theorem mX7_noSlot : xOkM iX7_noSlot := ⟨by decide +kernel, by decide, q3996, q175⟩
abbrev cX7_restore : ByteArray := prog_15_method_94_code
def yX7_restore : MethodName := ⟨RX7, "restore", "(I)I"⟩
def dkwX7_restore_2 : List UInt8 := [180, 0, 7, 3, 184, 0, 246, 42, 3, 181, 1, 3, 42, 180, 0, 7, 3, 46, 172]
abbrev dktX7_restore_2 : List UInt8 := dkwX7_restore_2 ++ []
def dkwX7_restore_1 : List UInt8 := [167, 0, 4, 3, 5, 182, 0, 136, 153, 0, 5, 3, 172, 42, 180, 0, 19, 17, 1, 24, 27, 104, 42]
abbrev dktX7_restore_1 : List UInt8 := dkwX7_restore_1 ++ dktX7_restore_2
def dkwX7_restore_0 : List UInt8 := [42, 3, 181, 0, 72, 42, 27, 182, 1, 141, 154, 0, 25, 42, 42, 180, 0, 22, 27, 51, 154, 0, 7, 4]
abbrev dktX7_restore_0 : List UInt8 := dkwX7_restore_0 ++ dktX7_restore_1
theorem dksX7_restore_0 : cX7_restore.data.toList.drop 0 = dktX7_restore_0 := by decide +kernel
theorem dksX7_restore_1 : cX7_restore.data.toList.drop 24 = dktX7_restore_1 := dk_seg dksX7_restore_0 24 rfl rfl
theorem dksX7_restore_2 : cX7_restore.data.toList.drop 47 = dktX7_restore_2 := dk_seg dksX7_restore_1 23 rfl rfl
theorem dX7_restore_0 : decode cX7_restore 0 = .ok (.aload_n 0, 1) := dk_42 (dk_at dksX7_restore_0 0 rfl rfl)
theorem dX7_restore_1 : decode cX7_restore 1 = .ok (.iconst 0, 1) := dk_3 (dk_at dksX7_restore_0 1 rfl rfl)
theorem dX7_restore_2 : decode cX7_restore 2 = .ok (.putfield 72, 3) := dk_181 0 72 (dk_at dksX7_restore_0 2 rfl rfl)
theorem dX7_restore_5 : decode cX7_restore 5 = .ok (.aload_n 0, 1) := dk_42 (dk_at dksX7_restore_0 5 rfl rfl)
theorem dX7_restore_6 : decode cX7_restore 6 = .ok (.iload_n 1, 1) := dk_27 (dk_at dksX7_restore_0 6 rfl rfl)
theorem dX7_restore_7 : decode cX7_restore 7 = .ok (.invokevirtual 397, 3) := dk_182 1 141 (dk_at dksX7_restore_0 7 rfl rfl)
theorem dX7_restore_10 : decode cX7_restore 10 = .ok (.ifCond .ne 25, 3) := dk_154 0 25 (dk_at dksX7_restore_0 10 rfl rfl)
theorem dX7_restore_13 : decode cX7_restore 13 = .ok (.aload_n 0, 1) := dk_42 (dk_at dksX7_restore_0 13 rfl rfl)
theorem dX7_restore_14 : decode cX7_restore 14 = .ok (.aload_n 0, 1) := dk_42 (dk_at dksX7_restore_0 14 rfl rfl)
theorem dX7_restore_15 : decode cX7_restore 15 = .ok (.getfield 22, 3) := dk_180 0 22 (dk_at dksX7_restore_0 15 rfl rfl)
theorem dX7_restore_18 : decode cX7_restore 18 = .ok (.iload_n 1, 1) := dk_27 (dk_at dksX7_restore_0 18 rfl rfl)
theorem dX7_restore_19 : decode cX7_restore 19 = .ok (.baload, 1) := dk_51 (dk_at dksX7_restore_0 19 rfl rfl)
theorem dX7_restore_20 : decode cX7_restore 20 = .ok (.ifCond .ne 7, 3) := dk_154 0 7 (dk_at dksX7_restore_0 20 rfl rfl)
theorem dX7_restore_23 : decode cX7_restore 23 = .ok (.iconst 1, 1) := dk_4 (dk_at dksX7_restore_0 23 rfl rfl)
theorem dX7_restore_24 : decode cX7_restore 24 = .ok (.goto 4, 3) := dk_167 0 4 (dk_at dksX7_restore_1 0 rfl rfl)
theorem dX7_restore_27 : decode cX7_restore 27 = .ok (.iconst 0, 1) := dk_3 (dk_at dksX7_restore_1 3 rfl rfl)
theorem dX7_restore_28 : decode cX7_restore 28 = .ok (.iconst 2, 1) := dk_5 (dk_at dksX7_restore_1 4 rfl rfl)
theorem dX7_restore_29 : decode cX7_restore 29 = .ok (.invokevirtual 136, 3) := dk_182 0 136 (dk_at dksX7_restore_1 5 rfl rfl)
theorem dX7_restore_32 : decode cX7_restore 32 = .ok (.ifCond .eq 5, 3) := dk_153 0 5 (dk_at dksX7_restore_1 8 rfl rfl)
theorem dX7_restore_35 : decode cX7_restore 35 = .ok (.iconst 0, 1) := dk_3 (dk_at dksX7_restore_1 11 rfl rfl)
theorem dX7_restore_36 : decode cX7_restore 36 = .ok (.ireturn, 1) := dk_172 (dk_at dksX7_restore_1 12 rfl rfl)
theorem dX7_restore_37 : decode cX7_restore 37 = .ok (.aload_n 0, 1) := dk_42 (dk_at dksX7_restore_1 13 rfl rfl)
theorem dX7_restore_38 : decode cX7_restore 38 = .ok (.getfield 19, 3) := dk_180 0 19 (dk_at dksX7_restore_1 14 rfl rfl)
theorem dX7_restore_41 : decode cX7_restore 41 = .ok (.sipush 280, 3) := dk_17 1 24 (dk_at dksX7_restore_1 17 rfl rfl)
theorem dX7_restore_44 : decode cX7_restore 44 = .ok (.iload_n 1, 1) := dk_27 (dk_at dksX7_restore_1 20 rfl rfl)
theorem dX7_restore_45 : decode cX7_restore 45 = .ok (.imul, 1) := dk_104 (dk_at dksX7_restore_1 21 rfl rfl)
theorem dX7_restore_46 : decode cX7_restore 46 = .ok (.aload_n 0, 1) := dk_42 (dk_at dksX7_restore_1 22 rfl rfl)
theorem dX7_restore_47 : decode cX7_restore 47 = .ok (.getfield 7, 3) := dk_180 0 7 (dk_at dksX7_restore_2 0 rfl rfl)
theorem dX7_restore_50 : decode cX7_restore 50 = .ok (.iconst 0, 1) := dk_3 (dk_at dksX7_restore_2 3 rfl rfl)
theorem dX7_restore_51 : decode cX7_restore 51 = .ok (.invokestatic 246, 3) := dk_184 0 246 (dk_at dksX7_restore_2 4 rfl rfl)
theorem dX7_restore_54 : decode cX7_restore 54 = .ok (.aload_n 0, 1) := dk_42 (dk_at dksX7_restore_2 7 rfl rfl)
theorem dX7_restore_55 : decode cX7_restore 55 = .ok (.iconst 0, 1) := dk_3 (dk_at dksX7_restore_2 8 rfl rfl)
theorem dX7_restore_56 : decode cX7_restore 56 = .ok (.putfield 259, 3) := dk_181 1 3 (dk_at dksX7_restore_2 9 rfl rfl)
theorem dX7_restore_59 : decode cX7_restore 59 = .ok (.aload_n 0, 1) := dk_42 (dk_at dksX7_restore_2 12 rfl rfl)
theorem dX7_restore_60 : decode cX7_restore 60 = .ok (.getfield 7, 3) := dk_180 0 7 (dk_at dksX7_restore_2 13 rfl rfl)
theorem dX7_restore_63 : decode cX7_restore 63 = .ok (.iconst 0, 1) := dk_3 (dk_at dksX7_restore_2 16 rfl rfl)
theorem dX7_restore_64 : decode cX7_restore 64 = .ok (.iaload, 1) := dk_46 (dk_at dksX7_restore_2 17 rfl rfl)
theorem dX7_restore_65 : decode cX7_restore 65 = .ok (.ireturn, 1) := dk_172 (dk_at dksX7_restore_2 18 rfl rfl)
abbrev iX7_restore : xM := (yX7_restore, cX7_restore, 2, (some .int), [])
theorem mX7_restore : xOkM iX7_restore := ⟨by decide +kernel, by decide, q4000, q175⟩
abbrev cX7_hour : ByteArray := prog_15_method_96_code
def yX7_hour : MethodName := ⟨RX7, "hour", "()I"⟩
def dkwX7_hour_0 : List UInt8 := [42, 3, 182, 1, 144, 172]
abbrev dktX7_hour_0 : List UInt8 := dkwX7_hour_0 ++ []
theorem dksX7_hour_0 : cX7_hour.data.toList.drop 0 = dktX7_hour_0 := by decide +kernel
theorem dX7_hour_0 : decode cX7_hour 0 = .ok (.aload_n 0, 1) := dk_42 (dk_at dksX7_hour_0 0 rfl rfl)
theorem dX7_hour_1 : decode cX7_hour 1 = .ok (.iconst 0, 1) := dk_3 (dk_at dksX7_hour_0 1 rfl rfl)
theorem dX7_hour_2 : decode cX7_hour 2 = .ok (.invokevirtual 400, 3) := dk_182 1 144 (dk_at dksX7_hour_0 2 rfl rfl)
theorem dX7_hour_5 : decode cX7_hour 5 = .ok (.ireturn, 1) := dk_172 (dk_at dksX7_hour_0 5 rfl rfl)
abbrev iX7_hour : xM := (yX7_hour, cX7_hour, 1, (some .int), [])
theorem mX7_hour : xOkM iX7_hour := ⟨by decide +kernel, by decide, q4004, q175⟩
abbrev cX7_told : ByteArray := prog_15_method_95_code
def yX7_told : MethodName := ⟨RX7, "told", "(I)I"⟩
def dkwX7_told_0 : List UInt8 := [42, 3, 181, 0, 72, 42, 180, 0, 7, 27, 46, 172]
abbrev dktX7_told_0 : List UInt8 := dkwX7_told_0 ++ []
theorem dksX7_told_0 : cX7_told.data.toList.drop 0 = dktX7_told_0 := by decide +kernel
theorem dX7_told_0 : decode cX7_told 0 = .ok (.aload_n 0, 1) := dk_42 (dk_at dksX7_told_0 0 rfl rfl)
theorem dX7_told_1 : decode cX7_told 1 = .ok (.iconst 0, 1) := dk_3 (dk_at dksX7_told_0 1 rfl rfl)
theorem dX7_told_2 : decode cX7_told 2 = .ok (.putfield 72, 3) := dk_181 0 72 (dk_at dksX7_told_0 2 rfl rfl)
theorem dX7_told_5 : decode cX7_told 5 = .ok (.aload_n 0, 1) := dk_42 (dk_at dksX7_told_0 5 rfl rfl)
theorem dX7_told_6 : decode cX7_told 6 = .ok (.getfield 7, 3) := dk_180 0 7 (dk_at dksX7_told_0 6 rfl rfl)
theorem dX7_told_9 : decode cX7_told 9 = .ok (.iload_n 1, 1) := dk_27 (dk_at dksX7_told_0 9 rfl rfl)
theorem dX7_told_10 : decode cX7_told 10 = .ok (.iaload, 1) := dk_46 (dk_at dksX7_told_0 10 rfl rfl)
theorem dX7_told_11 : decode cX7_told 11 = .ok (.ireturn, 1) := dk_172 (dk_at dksX7_told_0 11 rfl rfl)
abbrev iX7_told : xM := (yX7_told, cX7_told, 2, (some .int), [])
theorem mX7_told : xOkM iX7_told := ⟨by decide +kernel, by decide, q4008, q175⟩
abbrev cX7_temperature : ByteArray := prog_15_method_97_code
def yX7_temperature : MethodName := ⟨RX7, "temperature", "()I"⟩
def dkwX7_temperature_0 : List UInt8 := [42, 4, 182, 1, 144, 172]
abbrev dktX7_temperature_0 : List UInt8 := dkwX7_temperature_0 ++ []
theorem dksX7_temperature_0 : cX7_temperature.data.toList.drop 0 = dktX7_temperature_0 := by decide +kernel
theorem dX7_temperature_0 : decode cX7_temperature 0 = .ok (.aload_n 0, 1) := dk_42 (dk_at dksX7_temperature_0 0 rfl rfl)
theorem dX7_temperature_1 : decode cX7_temperature 1 = .ok (.iconst 1, 1) := dk_4 (dk_at dksX7_temperature_0 1 rfl rfl)
theorem dX7_temperature_2 : decode cX7_temperature 2 = .ok (.invokevirtual 400, 3) := dk_182 1 144 (dk_at dksX7_temperature_0 2 rfl rfl)
theorem dX7_temperature_5 : decode cX7_temperature 5 = .ok (.ireturn, 1) := dk_172 (dk_at dksX7_temperature_0 5 rfl rfl)
abbrev iX7_temperature : xM := (yX7_temperature, cX7_temperature, 1, (some .int), [])
theorem mX7_temperature : xOkM iX7_temperature := ⟨by decide +kernel, by decide, q4012, q175⟩
abbrev cX7_targetTemperature : ByteArray := prog_15_method_98_code
def yX7_targetTemperature : MethodName := ⟨RX7, "targetTemperature", "()I"⟩
def dkwX7_targetTemperature_0 : List UInt8 := [42, 5, 182, 1, 144, 172]
abbrev dktX7_targetTemperature_0 : List UInt8 := dkwX7_targetTemperature_0 ++ []
theorem dksX7_targetTemperature_0 : cX7_targetTemperature.data.toList.drop 0 = dktX7_targetTemperature_0 := by decide +kernel
theorem dX7_targetTemperature_0 : decode cX7_targetTemperature 0 = .ok (.aload_n 0, 1) := dk_42 (dk_at dksX7_targetTemperature_0 0 rfl rfl)
theorem dX7_targetTemperature_1 : decode cX7_targetTemperature 1 = .ok (.iconst 2, 1) := dk_5 (dk_at dksX7_targetTemperature_0 1 rfl rfl)
theorem dX7_targetTemperature_2 : decode cX7_targetTemperature 2 = .ok (.invokevirtual 400, 3) := dk_182 1 144 (dk_at dksX7_targetTemperature_0 2 rfl rfl)
theorem dX7_targetTemperature_5 : decode cX7_targetTemperature 5 = .ok (.ireturn, 1) := dk_172 (dk_at dksX7_targetTemperature_0 5 rfl rfl)
abbrev iX7_targetTemperature : xM := (yX7_targetTemperature, cX7_targetTemperature, 1, (some .int), [])
theorem mX7_targetTemperature : xOkM iX7_targetTemperature := ⟨by decide +kernel, by decide, q4016, q175⟩
abbrev cX7_chalkCount : ByteArray := prog_15_method_99_code
def yX7_chalkCount : MethodName := ⟨RX7, "chalkCount", "()I"⟩
def dkwX7_chalkCount_0 : List UInt8 := [42, 6, 182, 1, 144, 172]
abbrev dktX7_chalkCount_0 : List UInt8 := dkwX7_chalkCount_0 ++ []
theorem dksX7_chalkCount_0 : cX7_chalkCount.data.toList.drop 0 = dktX7_chalkCount_0 := by decide +kernel
theorem dX7_chalkCount_0 : decode cX7_chalkCount 0 = .ok (.aload_n 0, 1) := dk_42 (dk_at dksX7_chalkCount_0 0 rfl rfl)
theorem dX7_chalkCount_1 : decode cX7_chalkCount 1 = .ok (.iconst 3, 1) := dk_6 (dk_at dksX7_chalkCount_0 1 rfl rfl)
theorem dX7_chalkCount_2 : decode cX7_chalkCount 2 = .ok (.invokevirtual 400, 3) := dk_182 1 144 (dk_at dksX7_chalkCount_0 2 rfl rfl)
theorem dX7_chalkCount_5 : decode cX7_chalkCount 5 = .ok (.ireturn, 1) := dk_172 (dk_at dksX7_chalkCount_0 5 rfl rfl)
abbrev iX7_chalkCount : xM := (yX7_chalkCount, cX7_chalkCount, 1, (some .int), [])
theorem mX7_chalkCount : xOkM iX7_chalkCount := ⟨by decide +kernel, by decide, q4020, q175⟩
abbrev cX7_spareStrings : ByteArray := prog_15_method_100_code
def yX7_spareStrings : MethodName := ⟨RX7, "spareStrings", "()I"⟩
def dkwX7_spareStrings_0 : List UInt8 := [42, 7, 182, 1, 144, 172]
abbrev dktX7_spareStrings_0 : List UInt8 := dkwX7_spareStrings_0 ++ []
theorem dksX7_spareStrings_0 : cX7_spareStrings.data.toList.drop 0 = dktX7_spareStrings_0 := by decide +kernel
theorem dX7_spareStrings_0 : decode cX7_spareStrings 0 = .ok (.aload_n 0, 1) := dk_42 (dk_at dksX7_spareStrings_0 0 rfl rfl)
theorem dX7_spareStrings_1 : decode cX7_spareStrings 1 = .ok (.iconst 4, 1) := dk_7 (dk_at dksX7_spareStrings_0 1 rfl rfl)
theorem dX7_spareStrings_2 : decode cX7_spareStrings 2 = .ok (.invokevirtual 400, 3) := dk_182 1 144 (dk_at dksX7_spareStrings_0 2 rfl rfl)
theorem dX7_spareStrings_5 : decode cX7_spareStrings 5 = .ok (.ireturn, 1) := dk_172 (dk_at dksX7_spareStrings_0 5 rfl rfl)
abbrev iX7_spareStrings : xM := (yX7_spareStrings, cX7_spareStrings, 1, (some .int), [])
theorem mX7_spareStrings : xOkM iX7_spareStrings := ⟨by decide +kernel, by decide, q4024, q175⟩
abbrev cX7_stretch : ByteArray := prog_15_method_101_code
def yX7_stretch : MethodName := ⟨RX7, "stretch", "(I)I"⟩
def dkwX7_stretch_1 : List UInt8 := [182, 0, 136, 153, 0, 7, 3, 167, 0, 12, 42, 180, 0, 7, 16, 9, 27, 96, 46, 172]
abbrev dktX7_stretch_1 : List UInt8 := dkwX7_stretch_1 ++ []
def dkwX7_stretch_0 : List UInt8 := [42, 3, 181, 0, 72, 42, 27, 133, 9, 20, 1, 130, 184, 0, 144, 154, 0, 7, 4, 167, 0, 4, 3, 4]
abbrev dktX7_stretch_0 : List UInt8 := dkwX7_stretch_0 ++ dktX7_stretch_1
theorem dksX7_stretch_0 : cX7_stretch.data.toList.drop 0 = dktX7_stretch_0 := by decide +kernel
theorem dksX7_stretch_1 : cX7_stretch.data.toList.drop 24 = dktX7_stretch_1 := dk_seg dksX7_stretch_0 24 rfl rfl
theorem dX7_stretch_0 : decode cX7_stretch 0 = .ok (.aload_n 0, 1) := dk_42 (dk_at dksX7_stretch_0 0 rfl rfl)
theorem dX7_stretch_1 : decode cX7_stretch 1 = .ok (.iconst 0, 1) := dk_3 (dk_at dksX7_stretch_0 1 rfl rfl)
theorem dX7_stretch_2 : decode cX7_stretch 2 = .ok (.putfield 72, 3) := dk_181 0 72 (dk_at dksX7_stretch_0 2 rfl rfl)
theorem dX7_stretch_5 : decode cX7_stretch 5 = .ok (.aload_n 0, 1) := dk_42 (dk_at dksX7_stretch_0 5 rfl rfl)
theorem dX7_stretch_6 : decode cX7_stretch 6 = .ok (.iload_n 1, 1) := dk_27 (dk_at dksX7_stretch_0 6 rfl rfl)
theorem dX7_stretch_7 : decode cX7_stretch 7 = .ok (.i2l, 1) := dk_133 (dk_at dksX7_stretch_0 7 rfl rfl)
theorem dX7_stretch_8 : decode cX7_stretch 8 = .ok (.lconst 0, 1) := dk_9 (dk_at dksX7_stretch_0 8 rfl rfl)
theorem dX7_stretch_9 : decode cX7_stretch 9 = .ok (.ldc2_w 386, 3) := dk_20 1 130 (dk_at dksX7_stretch_0 9 rfl rfl)
theorem dX7_stretch_12 : decode cX7_stretch 12 = .ok (.invokestatic 144, 3) := dk_184 0 144 (dk_at dksX7_stretch_0 12 rfl rfl)
theorem dX7_stretch_15 : decode cX7_stretch 15 = .ok (.ifCond .ne 7, 3) := dk_154 0 7 (dk_at dksX7_stretch_0 15 rfl rfl)
theorem dX7_stretch_18 : decode cX7_stretch 18 = .ok (.iconst 1, 1) := dk_4 (dk_at dksX7_stretch_0 18 rfl rfl)
theorem dX7_stretch_19 : decode cX7_stretch 19 = .ok (.goto 4, 3) := dk_167 0 4 (dk_at dksX7_stretch_0 19 rfl rfl)
theorem dX7_stretch_22 : decode cX7_stretch 22 = .ok (.iconst 0, 1) := dk_3 (dk_at dksX7_stretch_0 22 rfl rfl)
theorem dX7_stretch_23 : decode cX7_stretch 23 = .ok (.iconst 1, 1) := dk_4 (dk_at dksX7_stretch_0 23 rfl rfl)
theorem dX7_stretch_24 : decode cX7_stretch 24 = .ok (.invokevirtual 136, 3) := dk_182 0 136 (dk_at dksX7_stretch_1 0 rfl rfl)
theorem dX7_stretch_27 : decode cX7_stretch 27 = .ok (.ifCond .eq 7, 3) := dk_153 0 7 (dk_at dksX7_stretch_1 3 rfl rfl)
theorem dX7_stretch_30 : decode cX7_stretch 30 = .ok (.iconst 0, 1) := dk_3 (dk_at dksX7_stretch_1 6 rfl rfl)
theorem dX7_stretch_31 : decode cX7_stretch 31 = .ok (.goto 12, 3) := dk_167 0 12 (dk_at dksX7_stretch_1 7 rfl rfl)
theorem dX7_stretch_34 : decode cX7_stretch 34 = .ok (.aload_n 0, 1) := dk_42 (dk_at dksX7_stretch_1 10 rfl rfl)
theorem dX7_stretch_35 : decode cX7_stretch 35 = .ok (.getfield 7, 3) := dk_180 0 7 (dk_at dksX7_stretch_1 11 rfl rfl)
theorem dX7_stretch_38 : decode cX7_stretch 38 = .ok (.bipush 9, 2) := dk_16 9 (dk_at dksX7_stretch_1 14 rfl rfl)
theorem dX7_stretch_40 : decode cX7_stretch 40 = .ok (.iload_n 1, 1) := dk_27 (dk_at dksX7_stretch_1 16 rfl rfl)
theorem dX7_stretch_41 : decode cX7_stretch 41 = .ok (.iadd, 1) := dk_96 (dk_at dksX7_stretch_1 17 rfl rfl)
theorem dX7_stretch_42 : decode cX7_stretch 42 = .ok (.iaload, 1) := dk_46 (dk_at dksX7_stretch_1 18 rfl rfl)
theorem dX7_stretch_43 : decode cX7_stretch 43 = .ok (.ireturn, 1) := dk_172 (dk_at dksX7_stretch_1 19 rfl rfl)
abbrev iX7_stretch : xM := (yX7_stretch, cX7_stretch, 2, (some .int), [])
theorem mX7_stretch : xOkM iX7_stretch := ⟨by decide +kernel, by decide, q4028, q175⟩
abbrev cX7_fiddlerCount : ByteArray := prog_15_method_102_code
def yX7_fiddlerCount : MethodName := ⟨RX7, "fiddlerCount", "()I"⟩
def dkwX7_fiddlerCount_0 : List UInt8 := [42, 16, 13, 182, 1, 144, 172]
abbrev dktX7_fiddlerCount_0 : List UInt8 := dkwX7_fiddlerCount_0 ++ []
theorem dksX7_fiddlerCount_0 : cX7_fiddlerCount.data.toList.drop 0 = dktX7_fiddlerCount_0 := by decide +kernel
theorem dX7_fiddlerCount_0 : decode cX7_fiddlerCount 0 = .ok (.aload_n 0, 1) := dk_42 (dk_at dksX7_fiddlerCount_0 0 rfl rfl)
theorem dX7_fiddlerCount_1 : decode cX7_fiddlerCount 1 = .ok (.bipush 13, 2) := dk_16 13 (dk_at dksX7_fiddlerCount_0 1 rfl rfl)
theorem dX7_fiddlerCount_3 : decode cX7_fiddlerCount 3 = .ok (.invokevirtual 400, 3) := dk_182 1 144 (dk_at dksX7_fiddlerCount_0 3 rfl rfl)
theorem dX7_fiddlerCount_6 : decode cX7_fiddlerCount 6 = .ok (.ireturn, 1) := dk_172 (dk_at dksX7_fiddlerCount_0 6 rfl rfl)
abbrev iX7_fiddlerCount : xM := (yX7_fiddlerCount, cX7_fiddlerCount, 1, (some .int), [])
theorem mX7_fiddlerCount : xOkM iX7_fiddlerCount := ⟨by decide +kernel, by decide, q4032, q175⟩
abbrev cX7_rowLength : ByteArray := prog_15_method_103_code
def yX7_rowLength : MethodName := ⟨RX7, "rowLength", "()I"⟩
def dkwX7_rowLength_0 : List UInt8 := [42, 16, 14, 182, 1, 144, 172]
abbrev dktX7_rowLength_0 : List UInt8 := dkwX7_rowLength_0 ++ []
theorem dksX7_rowLength_0 : cX7_rowLength.data.toList.drop 0 = dktX7_rowLength_0 := by decide +kernel
theorem dX7_rowLength_0 : decode cX7_rowLength 0 = .ok (.aload_n 0, 1) := dk_42 (dk_at dksX7_rowLength_0 0 rfl rfl)
theorem dX7_rowLength_1 : decode cX7_rowLength 1 = .ok (.bipush 14, 2) := dk_16 14 (dk_at dksX7_rowLength_0 1 rfl rfl)
theorem dX7_rowLength_3 : decode cX7_rowLength 3 = .ok (.invokevirtual 400, 3) := dk_182 1 144 (dk_at dksX7_rowLength_0 3 rfl rfl)
theorem dX7_rowLength_6 : decode cX7_rowLength 6 = .ok (.ireturn, 1) := dk_172 (dk_at dksX7_rowLength_0 6 rfl rfl)
abbrev iX7_rowLength : xM := (yX7_rowLength, cX7_rowLength, 1, (some .int), [])
theorem mX7_rowLength : xOkM iX7_rowLength := ⟨by decide +kernel, by decide, q4036, q175⟩
abbrev cX7_fiddlerAt : ByteArray := prog_15_method_104_code
def yX7_fiddlerAt : MethodName := ⟨RX7, "fiddlerAt", "(I)I"⟩
def dkwX7_fiddlerAt_1 : List UInt8 := [42, 180, 0, 7, 16, 20, 27, 96, 46, 167, 0, 4, 2, 172]
abbrev dktX7_fiddlerAt_1 : List UInt8 := dkwX7_fiddlerAt_1 ++ []
def dkwX7_fiddlerAt_0 : List UInt8 := [42, 3, 181, 0, 72, 27, 133, 9, 42, 180, 0, 7, 16, 14, 46, 4, 100, 133, 184, 0, 144, 153, 0, 15]
abbrev dktX7_fiddlerAt_0 : List UInt8 := dkwX7_fiddlerAt_0 ++ dktX7_fiddlerAt_1
theorem dksX7_fiddlerAt_0 : cX7_fiddlerAt.data.toList.drop 0 = dktX7_fiddlerAt_0 := by decide +kernel
theorem dksX7_fiddlerAt_1 : cX7_fiddlerAt.data.toList.drop 24 = dktX7_fiddlerAt_1 := dk_seg dksX7_fiddlerAt_0 24 rfl rfl
theorem dX7_fiddlerAt_0 : decode cX7_fiddlerAt 0 = .ok (.aload_n 0, 1) := dk_42 (dk_at dksX7_fiddlerAt_0 0 rfl rfl)
theorem dX7_fiddlerAt_1 : decode cX7_fiddlerAt 1 = .ok (.iconst 0, 1) := dk_3 (dk_at dksX7_fiddlerAt_0 1 rfl rfl)
theorem dX7_fiddlerAt_2 : decode cX7_fiddlerAt 2 = .ok (.putfield 72, 3) := dk_181 0 72 (dk_at dksX7_fiddlerAt_0 2 rfl rfl)
theorem dX7_fiddlerAt_5 : decode cX7_fiddlerAt 5 = .ok (.iload_n 1, 1) := dk_27 (dk_at dksX7_fiddlerAt_0 5 rfl rfl)
theorem dX7_fiddlerAt_6 : decode cX7_fiddlerAt 6 = .ok (.i2l, 1) := dk_133 (dk_at dksX7_fiddlerAt_0 6 rfl rfl)
theorem dX7_fiddlerAt_7 : decode cX7_fiddlerAt 7 = .ok (.lconst 0, 1) := dk_9 (dk_at dksX7_fiddlerAt_0 7 rfl rfl)
theorem dX7_fiddlerAt_8 : decode cX7_fiddlerAt 8 = .ok (.aload_n 0, 1) := dk_42 (dk_at dksX7_fiddlerAt_0 8 rfl rfl)
theorem dX7_fiddlerAt_9 : decode cX7_fiddlerAt 9 = .ok (.getfield 7, 3) := dk_180 0 7 (dk_at dksX7_fiddlerAt_0 9 rfl rfl)
theorem dX7_fiddlerAt_12 : decode cX7_fiddlerAt 12 = .ok (.bipush 14, 2) := dk_16 14 (dk_at dksX7_fiddlerAt_0 12 rfl rfl)
theorem dX7_fiddlerAt_14 : decode cX7_fiddlerAt 14 = .ok (.iaload, 1) := dk_46 (dk_at dksX7_fiddlerAt_0 14 rfl rfl)
theorem dX7_fiddlerAt_15 : decode cX7_fiddlerAt 15 = .ok (.iconst 1, 1) := dk_4 (dk_at dksX7_fiddlerAt_0 15 rfl rfl)
theorem dX7_fiddlerAt_16 : decode cX7_fiddlerAt 16 = .ok (.isub, 1) := dk_100 (dk_at dksX7_fiddlerAt_0 16 rfl rfl)
theorem dX7_fiddlerAt_17 : decode cX7_fiddlerAt 17 = .ok (.i2l, 1) := dk_133 (dk_at dksX7_fiddlerAt_0 17 rfl rfl)
theorem dX7_fiddlerAt_18 : decode cX7_fiddlerAt 18 = .ok (.invokestatic 144, 3) := dk_184 0 144 (dk_at dksX7_fiddlerAt_0 18 rfl rfl)
theorem dX7_fiddlerAt_21 : decode cX7_fiddlerAt 21 = .ok (.ifCond .eq 15, 3) := dk_153 0 15 (dk_at dksX7_fiddlerAt_0 21 rfl rfl)
theorem dX7_fiddlerAt_24 : decode cX7_fiddlerAt 24 = .ok (.aload_n 0, 1) := dk_42 (dk_at dksX7_fiddlerAt_1 0 rfl rfl)
theorem dX7_fiddlerAt_25 : decode cX7_fiddlerAt 25 = .ok (.getfield 7, 3) := dk_180 0 7 (dk_at dksX7_fiddlerAt_1 1 rfl rfl)
theorem dX7_fiddlerAt_28 : decode cX7_fiddlerAt 28 = .ok (.bipush 20, 2) := dk_16 20 (dk_at dksX7_fiddlerAt_1 4 rfl rfl)
theorem dX7_fiddlerAt_30 : decode cX7_fiddlerAt 30 = .ok (.iload_n 1, 1) := dk_27 (dk_at dksX7_fiddlerAt_1 6 rfl rfl)
theorem dX7_fiddlerAt_31 : decode cX7_fiddlerAt 31 = .ok (.iadd, 1) := dk_96 (dk_at dksX7_fiddlerAt_1 7 rfl rfl)
theorem dX7_fiddlerAt_32 : decode cX7_fiddlerAt 32 = .ok (.iaload, 1) := dk_46 (dk_at dksX7_fiddlerAt_1 8 rfl rfl)
theorem dX7_fiddlerAt_33 : decode cX7_fiddlerAt 33 = .ok (.goto 4, 3) := dk_167 0 4 (dk_at dksX7_fiddlerAt_1 9 rfl rfl)
theorem dX7_fiddlerAt_36 : decode cX7_fiddlerAt 36 = .ok (.iconst (-1), 1) := dk_2 (dk_at dksX7_fiddlerAt_1 12 rfl rfl)
theorem dX7_fiddlerAt_37 : decode cX7_fiddlerAt 37 = .ok (.ireturn, 1) := dk_172 (dk_at dksX7_fiddlerAt_1 13 rfl rfl)
abbrev iX7_fiddlerAt : xM := (yX7_fiddlerAt, cX7_fiddlerAt, 2, (some .int), [])
theorem mX7_fiddlerAt : xOkM iX7_fiddlerAt := ⟨by decide +kernel, by decide, q4040, q175⟩
abbrev cX7_placeOf : ByteArray := prog_15_method_105_code
def yX7_placeOf : MethodName := ⟨RX7, "placeOf", "(I)I"⟩
def dkwX7_placeOf_0 : List UInt8 := [42, 3, 181, 0, 72, 42, 27, 182, 1, 127, 153, 0, 7, 3, 167, 0, 8, 42, 27, 182, 0, 127, 172]
abbrev dktX7_placeOf_0 : List UInt8 := dkwX7_placeOf_0 ++ []
theorem dksX7_placeOf_0 : cX7_placeOf.data.toList.drop 0 = dktX7_placeOf_0 := by decide +kernel
theorem dX7_placeOf_0 : decode cX7_placeOf 0 = .ok (.aload_n 0, 1) := dk_42 (dk_at dksX7_placeOf_0 0 rfl rfl)
theorem dX7_placeOf_1 : decode cX7_placeOf 1 = .ok (.iconst 0, 1) := dk_3 (dk_at dksX7_placeOf_0 1 rfl rfl)
theorem dX7_placeOf_2 : decode cX7_placeOf 2 = .ok (.putfield 72, 3) := dk_181 0 72 (dk_at dksX7_placeOf_0 2 rfl rfl)
theorem dX7_placeOf_5 : decode cX7_placeOf 5 = .ok (.aload_n 0, 1) := dk_42 (dk_at dksX7_placeOf_0 5 rfl rfl)
theorem dX7_placeOf_6 : decode cX7_placeOf 6 = .ok (.iload_n 1, 1) := dk_27 (dk_at dksX7_placeOf_0 6 rfl rfl)
theorem dX7_placeOf_7 : decode cX7_placeOf 7 = .ok (.invokevirtual 383, 3) := dk_182 1 127 (dk_at dksX7_placeOf_0 7 rfl rfl)
theorem dX7_placeOf_10 : decode cX7_placeOf 10 = .ok (.ifCond .eq 7, 3) := dk_153 0 7 (dk_at dksX7_placeOf_0 10 rfl rfl)
theorem dX7_placeOf_13 : decode cX7_placeOf 13 = .ok (.iconst 0, 1) := dk_3 (dk_at dksX7_placeOf_0 13 rfl rfl)
theorem dX7_placeOf_14 : decode cX7_placeOf 14 = .ok (.goto 8, 3) := dk_167 0 8 (dk_at dksX7_placeOf_0 14 rfl rfl)
theorem dX7_placeOf_17 : decode cX7_placeOf 17 = .ok (.aload_n 0, 1) := dk_42 (dk_at dksX7_placeOf_0 17 rfl rfl)
theorem dX7_placeOf_18 : decode cX7_placeOf 18 = .ok (.iload_n 1, 1) := dk_27 (dk_at dksX7_placeOf_0 18 rfl rfl)
theorem dX7_placeOf_19 : decode cX7_placeOf 19 = .ok (.invokevirtual 127, 3) := dk_182 0 127 (dk_at dksX7_placeOf_0 19 rfl rfl)
theorem dX7_placeOf_22 : decode cX7_placeOf 22 = .ok (.ireturn, 1) := dk_172 (dk_at dksX7_placeOf_0 22 rfl rfl)
abbrev iX7_placeOf : xM := (yX7_placeOf, cX7_placeOf, 2, (some .int), [])
theorem mX7_placeOf : xOkM iX7_placeOf := ⟨by decide +kernel, by decide, q4044, q175⟩
abbrev cX7_findFiddler : ByteArray := prog_15_method_107_code
def yX7_findFiddler : MethodName := ⟨RX7, "findFiddler", "()I"⟩
def dkwX7_findFiddler_0 : List UInt8 := [42, 3, 181, 0, 72, 42, 182, 1, 147, 60, 27, 154, 0, 7, 2, 167, 0, 8, 42, 27, 182, 0, 218, 172]
abbrev dktX7_findFiddler_0 : List UInt8 := dkwX7_findFiddler_0 ++ []
theorem dksX7_findFiddler_0 : cX7_findFiddler.data.toList.drop 0 = dktX7_findFiddler_0 := by decide +kernel
theorem dX7_findFiddler_0 : decode cX7_findFiddler 0 = .ok (.aload_n 0, 1) := dk_42 (dk_at dksX7_findFiddler_0 0 rfl rfl)
theorem dX7_findFiddler_1 : decode cX7_findFiddler 1 = .ok (.iconst 0, 1) := dk_3 (dk_at dksX7_findFiddler_0 1 rfl rfl)
theorem dX7_findFiddler_2 : decode cX7_findFiddler 2 = .ok (.putfield 72, 3) := dk_181 0 72 (dk_at dksX7_findFiddler_0 2 rfl rfl)
theorem dX7_findFiddler_5 : decode cX7_findFiddler 5 = .ok (.aload_n 0, 1) := dk_42 (dk_at dksX7_findFiddler_0 5 rfl rfl)
theorem dX7_findFiddler_6 : decode cX7_findFiddler 6 = .ok (.invokevirtual 403, 3) := dk_182 1 147 (dk_at dksX7_findFiddler_0 6 rfl rfl)
theorem dX7_findFiddler_9 : decode cX7_findFiddler 9 = .ok (.istore_n 1, 1) := dk_60 (dk_at dksX7_findFiddler_0 9 rfl rfl)
theorem dX7_findFiddler_10 : decode cX7_findFiddler 10 = .ok (.iload_n 1, 1) := dk_27 (dk_at dksX7_findFiddler_0 10 rfl rfl)
theorem dX7_findFiddler_11 : decode cX7_findFiddler 11 = .ok (.ifCond .ne 7, 3) := dk_154 0 7 (dk_at dksX7_findFiddler_0 11 rfl rfl)
theorem dX7_findFiddler_14 : decode cX7_findFiddler 14 = .ok (.iconst (-1), 1) := dk_2 (dk_at dksX7_findFiddler_0 14 rfl rfl)
theorem dX7_findFiddler_15 : decode cX7_findFiddler 15 = .ok (.goto 8, 3) := dk_167 0 8 (dk_at dksX7_findFiddler_0 15 rfl rfl)
theorem dX7_findFiddler_18 : decode cX7_findFiddler 18 = .ok (.aload_n 0, 1) := dk_42 (dk_at dksX7_findFiddler_0 18 rfl rfl)
theorem dX7_findFiddler_19 : decode cX7_findFiddler 19 = .ok (.iload_n 1, 1) := dk_27 (dk_at dksX7_findFiddler_0 19 rfl rfl)
theorem dX7_findFiddler_20 : decode cX7_findFiddler 20 = .ok (.invokevirtual 218, 3) := dk_182 0 218 (dk_at dksX7_findFiddler_0 20 rfl rfl)
theorem dX7_findFiddler_23 : decode cX7_findFiddler 23 = .ok (.ireturn, 1) := dk_172 (dk_at dksX7_findFiddler_0 23 rfl rfl)
abbrev iX7_findFiddler : xM := (yX7_findFiddler, cX7_findFiddler, 2, (some .int), [])
theorem mX7_findFiddler : xOkM iX7_findFiddler := ⟨by decide +kernel, by decide, q4048, q175⟩
abbrev cX7_wholeName : ByteArray := prog_15_method_106_code
def yX7_wholeName : MethodName := ⟨RX7, "wholeName", "()I"⟩
def dkwX7_wholeName_2 : List UInt8 := [132, 2, 1, 167, 255, 210, 27, 172]
abbrev dktX7_wholeName_2 : List UInt8 := dkwX7_wholeName_2 ++ []
def dkwX7_wholeName_1 : List UInt8 := [28, 16, 6, 160, 0, 5, 3, 172, 16, 32, 27, 104, 42, 180, 0, 42, 28, 46, 96, 16, 96, 100, 60]
abbrev dktX7_wholeName_1 : List UInt8 := dkwX7_wholeName_1 ++ dktX7_wholeName_2
def dkwX7_wholeName_0 : List UInt8 := [3, 60, 3, 61, 28, 42, 180, 0, 130, 162, 0, 44, 42, 180, 0, 42, 28, 46, 184, 0, 170, 153, 0, 9]
abbrev dktX7_wholeName_0 : List UInt8 := dkwX7_wholeName_0 ++ dktX7_wholeName_1
theorem dksX7_wholeName_0 : cX7_wholeName.data.toList.drop 0 = dktX7_wholeName_0 := by decide +kernel
theorem dksX7_wholeName_1 : cX7_wholeName.data.toList.drop 24 = dktX7_wholeName_1 := dk_seg dksX7_wholeName_0 24 rfl rfl
theorem dksX7_wholeName_2 : cX7_wholeName.data.toList.drop 47 = dktX7_wholeName_2 := dk_seg dksX7_wholeName_1 23 rfl rfl
theorem dX7_wholeName_0 : decode cX7_wholeName 0 = .ok (.iconst 0, 1) := dk_3 (dk_at dksX7_wholeName_0 0 rfl rfl)
theorem dX7_wholeName_1 : decode cX7_wholeName 1 = .ok (.istore_n 1, 1) := dk_60 (dk_at dksX7_wholeName_0 1 rfl rfl)
theorem dX7_wholeName_2 : decode cX7_wholeName 2 = .ok (.iconst 0, 1) := dk_3 (dk_at dksX7_wholeName_0 2 rfl rfl)
theorem dX7_wholeName_3 : decode cX7_wholeName 3 = .ok (.istore_n 2, 1) := dk_61 (dk_at dksX7_wholeName_0 3 rfl rfl)
theorem dX7_wholeName_4 : decode cX7_wholeName 4 = .ok (.iload_n 2, 1) := dk_28 (dk_at dksX7_wholeName_0 4 rfl rfl)
theorem dX7_wholeName_5 : decode cX7_wholeName 5 = .ok (.aload_n 0, 1) := dk_42 (dk_at dksX7_wholeName_0 5 rfl rfl)
theorem dX7_wholeName_6 : decode cX7_wholeName 6 = .ok (.getfield 130, 3) := dk_180 0 130 (dk_at dksX7_wholeName_0 6 rfl rfl)
theorem dX7_wholeName_9 : decode cX7_wholeName 9 = .ok (.if_icmp .ge 44, 3) := dk_162 0 44 (dk_at dksX7_wholeName_0 9 rfl rfl)
theorem dX7_wholeName_12 : decode cX7_wholeName 12 = .ok (.aload_n 0, 1) := dk_42 (dk_at dksX7_wholeName_0 12 rfl rfl)
theorem dX7_wholeName_13 : decode cX7_wholeName 13 = .ok (.getfield 42, 3) := dk_180 0 42 (dk_at dksX7_wholeName_0 13 rfl rfl)
theorem dX7_wholeName_16 : decode cX7_wholeName 16 = .ok (.iload_n 2, 1) := dk_28 (dk_at dksX7_wholeName_0 16 rfl rfl)
theorem dX7_wholeName_17 : decode cX7_wholeName 17 = .ok (.iaload, 1) := dk_46 (dk_at dksX7_wholeName_0 17 rfl rfl)
theorem dX7_wholeName_18 : decode cX7_wholeName 18 = .ok (.invokestatic 170, 3) := dk_184 0 170 (dk_at dksX7_wholeName_0 18 rfl rfl)
theorem dX7_wholeName_21 : decode cX7_wholeName 21 = .ok (.ifCond .eq 9, 3) := dk_153 0 9 (dk_at dksX7_wholeName_0 21 rfl rfl)
theorem dX7_wholeName_24 : decode cX7_wholeName 24 = .ok (.iload_n 2, 1) := dk_28 (dk_at dksX7_wholeName_1 0 rfl rfl)
theorem dX7_wholeName_25 : decode cX7_wholeName 25 = .ok (.bipush 6, 2) := dk_16 6 (dk_at dksX7_wholeName_1 1 rfl rfl)
theorem dX7_wholeName_27 : decode cX7_wholeName 27 = .ok (.if_icmp .ne 5, 3) := dk_160 0 5 (dk_at dksX7_wholeName_1 3 rfl rfl)
theorem dX7_wholeName_30 : decode cX7_wholeName 30 = .ok (.iconst 0, 1) := dk_3 (dk_at dksX7_wholeName_1 6 rfl rfl)
theorem dX7_wholeName_31 : decode cX7_wholeName 31 = .ok (.ireturn, 1) := dk_172 (dk_at dksX7_wholeName_1 7 rfl rfl)
theorem dX7_wholeName_32 : decode cX7_wholeName 32 = .ok (.bipush 32, 2) := dk_16 32 (dk_at dksX7_wholeName_1 8 rfl rfl)
theorem dX7_wholeName_34 : decode cX7_wholeName 34 = .ok (.iload_n 1, 1) := dk_27 (dk_at dksX7_wholeName_1 10 rfl rfl)
theorem dX7_wholeName_35 : decode cX7_wholeName 35 = .ok (.imul, 1) := dk_104 (dk_at dksX7_wholeName_1 11 rfl rfl)
theorem dX7_wholeName_36 : decode cX7_wholeName 36 = .ok (.aload_n 0, 1) := dk_42 (dk_at dksX7_wholeName_1 12 rfl rfl)
theorem dX7_wholeName_37 : decode cX7_wholeName 37 = .ok (.getfield 42, 3) := dk_180 0 42 (dk_at dksX7_wholeName_1 13 rfl rfl)
theorem dX7_wholeName_40 : decode cX7_wholeName 40 = .ok (.iload_n 2, 1) := dk_28 (dk_at dksX7_wholeName_1 16 rfl rfl)
theorem dX7_wholeName_41 : decode cX7_wholeName 41 = .ok (.iaload, 1) := dk_46 (dk_at dksX7_wholeName_1 17 rfl rfl)
theorem dX7_wholeName_42 : decode cX7_wholeName 42 = .ok (.iadd, 1) := dk_96 (dk_at dksX7_wholeName_1 18 rfl rfl)
theorem dX7_wholeName_43 : decode cX7_wholeName 43 = .ok (.bipush 96, 2) := dk_16 96 (dk_at dksX7_wholeName_1 19 rfl rfl)
theorem dX7_wholeName_45 : decode cX7_wholeName 45 = .ok (.isub, 1) := dk_100 (dk_at dksX7_wholeName_1 21 rfl rfl)
theorem dX7_wholeName_46 : decode cX7_wholeName 46 = .ok (.istore_n 1, 1) := dk_60 (dk_at dksX7_wholeName_1 22 rfl rfl)
theorem dX7_wholeName_47 : decode cX7_wholeName 47 = .ok (.iinc 2 1, 3) := dk_132 2 1 (dk_at dksX7_wholeName_2 0 rfl rfl)
theorem dX7_wholeName_50 : decode cX7_wholeName 50 = .ok (.goto (-46), 3) := dk_167 255 210 (dk_at dksX7_wholeName_2 3 rfl rfl)
theorem dX7_wholeName_53 : decode cX7_wholeName 53 = .ok (.iload_n 1, 1) := dk_27 (dk_at dksX7_wholeName_2 6 rfl rfl)
theorem dX7_wholeName_54 : decode cX7_wholeName 54 = .ok (.ireturn, 1) := dk_172 (dk_at dksX7_wholeName_2 7 rfl rfl)
abbrev iX7_wholeName : xM := (yX7_wholeName, cX7_wholeName, 3, (some .int), [])
theorem mX7_wholeName : xOkM iX7_wholeName := ⟨by decide +kernel, by decide, q4052, q175⟩
abbrev cX7_nameLetter : ByteArray := prog_15_method_110_code
def yX7_nameLetter : MethodName := ⟨RX7, "nameLetter", "(II)I"⟩
def dkwX7_nameLetter_1 : List UInt8 := [184, 1, 153, 172]
abbrev dktX7_nameLetter_1 : List UInt8 := dkwX7_nameLetter_1 ++ []
def dkwX7_nameLetter_0 : List UInt8 := [42, 3, 181, 0, 72, 42, 27, 182, 1, 127, 153, 0, 7, 3, 167, 0, 13, 42, 27, 3, 182, 0, 75, 28]
abbrev dktX7_nameLetter_0 : List UInt8 := dkwX7_nameLetter_0 ++ dktX7_nameLetter_1
theorem dksX7_nameLetter_0 : cX7_nameLetter.data.toList.drop 0 = dktX7_nameLetter_0 := by decide +kernel
theorem dksX7_nameLetter_1 : cX7_nameLetter.data.toList.drop 24 = dktX7_nameLetter_1 := dk_seg dksX7_nameLetter_0 24 rfl rfl
theorem dX7_nameLetter_0 : decode cX7_nameLetter 0 = .ok (.aload_n 0, 1) := dk_42 (dk_at dksX7_nameLetter_0 0 rfl rfl)
theorem dX7_nameLetter_1 : decode cX7_nameLetter 1 = .ok (.iconst 0, 1) := dk_3 (dk_at dksX7_nameLetter_0 1 rfl rfl)
theorem dX7_nameLetter_2 : decode cX7_nameLetter 2 = .ok (.putfield 72, 3) := dk_181 0 72 (dk_at dksX7_nameLetter_0 2 rfl rfl)
theorem dX7_nameLetter_5 : decode cX7_nameLetter 5 = .ok (.aload_n 0, 1) := dk_42 (dk_at dksX7_nameLetter_0 5 rfl rfl)
theorem dX7_nameLetter_6 : decode cX7_nameLetter 6 = .ok (.iload_n 1, 1) := dk_27 (dk_at dksX7_nameLetter_0 6 rfl rfl)
theorem dX7_nameLetter_7 : decode cX7_nameLetter 7 = .ok (.invokevirtual 383, 3) := dk_182 1 127 (dk_at dksX7_nameLetter_0 7 rfl rfl)
theorem dX7_nameLetter_10 : decode cX7_nameLetter 10 = .ok (.ifCond .eq 7, 3) := dk_153 0 7 (dk_at dksX7_nameLetter_0 10 rfl rfl)
theorem dX7_nameLetter_13 : decode cX7_nameLetter 13 = .ok (.iconst 0, 1) := dk_3 (dk_at dksX7_nameLetter_0 13 rfl rfl)
theorem dX7_nameLetter_14 : decode cX7_nameLetter 14 = .ok (.goto 13, 3) := dk_167 0 13 (dk_at dksX7_nameLetter_0 14 rfl rfl)
theorem dX7_nameLetter_17 : decode cX7_nameLetter 17 = .ok (.aload_n 0, 1) := dk_42 (dk_at dksX7_nameLetter_0 17 rfl rfl)
theorem dX7_nameLetter_18 : decode cX7_nameLetter 18 = .ok (.iload_n 1, 1) := dk_27 (dk_at dksX7_nameLetter_0 18 rfl rfl)
theorem dX7_nameLetter_19 : decode cX7_nameLetter 19 = .ok (.iconst 0, 1) := dk_3 (dk_at dksX7_nameLetter_0 19 rfl rfl)
theorem dX7_nameLetter_20 : decode cX7_nameLetter 20 = .ok (.invokevirtual 75, 3) := dk_182 0 75 (dk_at dksX7_nameLetter_0 20 rfl rfl)
theorem dX7_nameLetter_23 : decode cX7_nameLetter 23 = .ok (.iload_n 2, 1) := dk_28 (dk_at dksX7_nameLetter_0 23 rfl rfl)
theorem dX7_nameLetter_24 : decode cX7_nameLetter 24 = .ok (.invokestatic 409, 3) := dk_184 1 153 (dk_at dksX7_nameLetter_1 0 rfl rfl)
theorem dX7_nameLetter_27 : decode cX7_nameLetter 27 = .ok (.ireturn, 1) := dk_172 (dk_at dksX7_nameLetter_1 3 rfl rfl)
abbrev iX7_nameLetter : xM := (yX7_nameLetter, cX7_nameLetter, 3, (some .int), [])
theorem mX7_nameLetter : xOkM iX7_nameLetter := ⟨by decide +kernel, by decide, q4056, q175⟩
abbrev cX7_letterOf : ByteArray := prog_15_method_109_code
def yX7_letterOf : MethodName := ⟨RX7, "letterOf", "(II)I"⟩
def dkwX7_letterOf_1 : List UInt8 := [100, 104, 122, 16, 31, 126, 16, 96, 96, 167, 0, 4, 2, 172]
abbrev dktX7_letterOf_1 : List UInt8 := dkwX7_letterOf_1 ++ []
def dkwX7_letterOf_0 : List UInt8 := [26, 184, 1, 150, 61, 27, 133, 9, 28, 4, 100, 133, 184, 0, 144, 153, 0, 21, 26, 8, 28, 4, 100, 27]
abbrev dktX7_letterOf_0 : List UInt8 := dkwX7_letterOf_0 ++ dktX7_letterOf_1
theorem dksX7_letterOf_0 : cX7_letterOf.data.toList.drop 0 = dktX7_letterOf_0 := by decide +kernel
theorem dksX7_letterOf_1 : cX7_letterOf.data.toList.drop 24 = dktX7_letterOf_1 := dk_seg dksX7_letterOf_0 24 rfl rfl
theorem dX7_letterOf_0 : decode cX7_letterOf 0 = .ok (.iload_n 0, 1) := dk_26 (dk_at dksX7_letterOf_0 0 rfl rfl)
theorem dX7_letterOf_1 : decode cX7_letterOf 1 = .ok (.invokestatic 406, 3) := dk_184 1 150 (dk_at dksX7_letterOf_0 1 rfl rfl)
theorem dX7_letterOf_4 : decode cX7_letterOf 4 = .ok (.istore_n 2, 1) := dk_61 (dk_at dksX7_letterOf_0 4 rfl rfl)
theorem dX7_letterOf_5 : decode cX7_letterOf 5 = .ok (.iload_n 1, 1) := dk_27 (dk_at dksX7_letterOf_0 5 rfl rfl)
theorem dX7_letterOf_6 : decode cX7_letterOf 6 = .ok (.i2l, 1) := dk_133 (dk_at dksX7_letterOf_0 6 rfl rfl)
theorem dX7_letterOf_7 : decode cX7_letterOf 7 = .ok (.lconst 0, 1) := dk_9 (dk_at dksX7_letterOf_0 7 rfl rfl)
theorem dX7_letterOf_8 : decode cX7_letterOf 8 = .ok (.iload_n 2, 1) := dk_28 (dk_at dksX7_letterOf_0 8 rfl rfl)
theorem dX7_letterOf_9 : decode cX7_letterOf 9 = .ok (.iconst 1, 1) := dk_4 (dk_at dksX7_letterOf_0 9 rfl rfl)
theorem dX7_letterOf_10 : decode cX7_letterOf 10 = .ok (.isub, 1) := dk_100 (dk_at dksX7_letterOf_0 10 rfl rfl)
theorem dX7_letterOf_11 : decode cX7_letterOf 11 = .ok (.i2l, 1) := dk_133 (dk_at dksX7_letterOf_0 11 rfl rfl)
theorem dX7_letterOf_12 : decode cX7_letterOf 12 = .ok (.invokestatic 144, 3) := dk_184 0 144 (dk_at dksX7_letterOf_0 12 rfl rfl)
theorem dX7_letterOf_15 : decode cX7_letterOf 15 = .ok (.ifCond .eq 21, 3) := dk_153 0 21 (dk_at dksX7_letterOf_0 15 rfl rfl)
theorem dX7_letterOf_18 : decode cX7_letterOf 18 = .ok (.iload_n 0, 1) := dk_26 (dk_at dksX7_letterOf_0 18 rfl rfl)
theorem dX7_letterOf_19 : decode cX7_letterOf 19 = .ok (.iconst 5, 1) := dk_8 (dk_at dksX7_letterOf_0 19 rfl rfl)
theorem dX7_letterOf_20 : decode cX7_letterOf 20 = .ok (.iload_n 2, 1) := dk_28 (dk_at dksX7_letterOf_0 20 rfl rfl)
theorem dX7_letterOf_21 : decode cX7_letterOf 21 = .ok (.iconst 1, 1) := dk_4 (dk_at dksX7_letterOf_0 21 rfl rfl)
theorem dX7_letterOf_22 : decode cX7_letterOf 22 = .ok (.isub, 1) := dk_100 (dk_at dksX7_letterOf_0 22 rfl rfl)
theorem dX7_letterOf_23 : decode cX7_letterOf 23 = .ok (.iload_n 1, 1) := dk_27 (dk_at dksX7_letterOf_0 23 rfl rfl)
theorem dX7_letterOf_24 : decode cX7_letterOf 24 = .ok (.isub, 1) := dk_100 (dk_at dksX7_letterOf_1 0 rfl rfl)
theorem dX7_letterOf_25 : decode cX7_letterOf 25 = .ok (.imul, 1) := dk_104 (dk_at dksX7_letterOf_1 1 rfl rfl)
theorem dX7_letterOf_26 : decode cX7_letterOf 26 = .ok (.ishr, 1) := dk_122 (dk_at dksX7_letterOf_1 2 rfl rfl)
theorem dX7_letterOf_27 : decode cX7_letterOf 27 = .ok (.bipush 31, 2) := dk_16 31 (dk_at dksX7_letterOf_1 3 rfl rfl)
theorem dX7_letterOf_29 : decode cX7_letterOf 29 = .ok (.iand, 1) := dk_126 (dk_at dksX7_letterOf_1 5 rfl rfl)
theorem dX7_letterOf_30 : decode cX7_letterOf 30 = .ok (.bipush 96, 2) := dk_16 96 (dk_at dksX7_letterOf_1 6 rfl rfl)
theorem dX7_letterOf_32 : decode cX7_letterOf 32 = .ok (.iadd, 1) := dk_96 (dk_at dksX7_letterOf_1 8 rfl rfl)
theorem dX7_letterOf_33 : decode cX7_letterOf 33 = .ok (.goto 4, 3) := dk_167 0 4 (dk_at dksX7_letterOf_1 9 rfl rfl)
theorem dX7_letterOf_36 : decode cX7_letterOf 36 = .ok (.iconst (-1), 1) := dk_2 (dk_at dksX7_letterOf_1 12 rfl rfl)
theorem dX7_letterOf_37 : decode cX7_letterOf 37 = .ok (.ireturn, 1) := dk_172 (dk_at dksX7_letterOf_1 13 rfl rfl)
abbrev iX7_letterOf : xM := (yX7_letterOf, cX7_letterOf, 3, (some .int), [])
theorem mX7_letterOf : xOkM iX7_letterOf := ⟨by decide +kernel, by decide, q4059, q175⟩
abbrev cX7_lettersOf : ByteArray := prog_15_method_108_code
def yX7_lettersOf : MethodName := ⟨RX7, "lettersOf", "(I)I"⟩
def dkwX7_lettersOf_0 : List UInt8 := [3, 60, 26, 61, 28, 158, 0, 13, 132, 1, 1, 28, 8, 122, 61, 167, 255, 245, 27, 172]
abbrev dktX7_lettersOf_0 : List UInt8 := dkwX7_lettersOf_0 ++ []
theorem dksX7_lettersOf_0 : cX7_lettersOf.data.toList.drop 0 = dktX7_lettersOf_0 := by decide +kernel
theorem dX7_lettersOf_0 : decode cX7_lettersOf 0 = .ok (.iconst 0, 1) := dk_3 (dk_at dksX7_lettersOf_0 0 rfl rfl)
theorem dX7_lettersOf_1 : decode cX7_lettersOf 1 = .ok (.istore_n 1, 1) := dk_60 (dk_at dksX7_lettersOf_0 1 rfl rfl)
theorem dX7_lettersOf_2 : decode cX7_lettersOf 2 = .ok (.iload_n 0, 1) := dk_26 (dk_at dksX7_lettersOf_0 2 rfl rfl)
theorem dX7_lettersOf_3 : decode cX7_lettersOf 3 = .ok (.istore_n 2, 1) := dk_61 (dk_at dksX7_lettersOf_0 3 rfl rfl)
theorem dX7_lettersOf_4 : decode cX7_lettersOf 4 = .ok (.iload_n 2, 1) := dk_28 (dk_at dksX7_lettersOf_0 4 rfl rfl)
theorem dX7_lettersOf_5 : decode cX7_lettersOf 5 = .ok (.ifCond .le 13, 3) := dk_158 0 13 (dk_at dksX7_lettersOf_0 5 rfl rfl)
theorem dX7_lettersOf_8 : decode cX7_lettersOf 8 = .ok (.iinc 1 1, 3) := dk_132 1 1 (dk_at dksX7_lettersOf_0 8 rfl rfl)
theorem dX7_lettersOf_11 : decode cX7_lettersOf 11 = .ok (.iload_n 2, 1) := dk_28 (dk_at dksX7_lettersOf_0 11 rfl rfl)
theorem dX7_lettersOf_12 : decode cX7_lettersOf 12 = .ok (.iconst 5, 1) := dk_8 (dk_at dksX7_lettersOf_0 12 rfl rfl)
theorem dX7_lettersOf_13 : decode cX7_lettersOf 13 = .ok (.ishr, 1) := dk_122 (dk_at dksX7_lettersOf_0 13 rfl rfl)
theorem dX7_lettersOf_14 : decode cX7_lettersOf 14 = .ok (.istore_n 2, 1) := dk_61 (dk_at dksX7_lettersOf_0 14 rfl rfl)
theorem dX7_lettersOf_15 : decode cX7_lettersOf 15 = .ok (.goto (-11), 3) := dk_167 255 245 (dk_at dksX7_lettersOf_0 15 rfl rfl)
theorem dX7_lettersOf_18 : decode cX7_lettersOf 18 = .ok (.iload_n 1, 1) := dk_27 (dk_at dksX7_lettersOf_0 18 rfl rfl)
theorem dX7_lettersOf_19 : decode cX7_lettersOf 19 = .ok (.ireturn, 1) := dk_172 (dk_at dksX7_lettersOf_0 19 rfl rfl)
abbrev iX7_lettersOf : xM := (yX7_lettersOf, cX7_lettersOf, 3, (some .int), [])
theorem mX7_lettersOf : xOkM iX7_lettersOf := ⟨by decide +kernel, by decide, q4062, q175⟩
abbrev cX7_patienceOf : ByteArray := prog_15_method_111_code
def yX7_patienceOf : MethodName := ⟨RX7, "patienceOf", "(I)I"⟩
def dkwX7_patienceOf_0 : List UInt8 := [42, 3, 181, 0, 72, 42, 27, 182, 1, 127, 153, 0, 7, 3, 167, 0, 9, 42, 27, 4, 182, 0, 75, 172]
abbrev dktX7_patienceOf_0 : List UInt8 := dkwX7_patienceOf_0 ++ []
theorem dksX7_patienceOf_0 : cX7_patienceOf.data.toList.drop 0 = dktX7_patienceOf_0 := by decide +kernel
theorem dX7_patienceOf_0 : decode cX7_patienceOf 0 = .ok (.aload_n 0, 1) := dk_42 (dk_at dksX7_patienceOf_0 0 rfl rfl)
theorem dX7_patienceOf_1 : decode cX7_patienceOf 1 = .ok (.iconst 0, 1) := dk_3 (dk_at dksX7_patienceOf_0 1 rfl rfl)
theorem dX7_patienceOf_2 : decode cX7_patienceOf 2 = .ok (.putfield 72, 3) := dk_181 0 72 (dk_at dksX7_patienceOf_0 2 rfl rfl)
theorem dX7_patienceOf_5 : decode cX7_patienceOf 5 = .ok (.aload_n 0, 1) := dk_42 (dk_at dksX7_patienceOf_0 5 rfl rfl)
theorem dX7_patienceOf_6 : decode cX7_patienceOf 6 = .ok (.iload_n 1, 1) := dk_27 (dk_at dksX7_patienceOf_0 6 rfl rfl)
theorem dX7_patienceOf_7 : decode cX7_patienceOf 7 = .ok (.invokevirtual 383, 3) := dk_182 1 127 (dk_at dksX7_patienceOf_0 7 rfl rfl)
theorem dX7_patienceOf_10 : decode cX7_patienceOf 10 = .ok (.ifCond .eq 7, 3) := dk_153 0 7 (dk_at dksX7_patienceOf_0 10 rfl rfl)
theorem dX7_patienceOf_13 : decode cX7_patienceOf 13 = .ok (.iconst 0, 1) := dk_3 (dk_at dksX7_patienceOf_0 13 rfl rfl)
theorem dX7_patienceOf_14 : decode cX7_patienceOf 14 = .ok (.goto 9, 3) := dk_167 0 9 (dk_at dksX7_patienceOf_0 14 rfl rfl)
theorem dX7_patienceOf_17 : decode cX7_patienceOf 17 = .ok (.aload_n 0, 1) := dk_42 (dk_at dksX7_patienceOf_0 17 rfl rfl)
theorem dX7_patienceOf_18 : decode cX7_patienceOf 18 = .ok (.iload_n 1, 1) := dk_27 (dk_at dksX7_patienceOf_0 18 rfl rfl)
theorem dX7_patienceOf_19 : decode cX7_patienceOf 19 = .ok (.iconst 1, 1) := dk_4 (dk_at dksX7_patienceOf_0 19 rfl rfl)
theorem dX7_patienceOf_20 : decode cX7_patienceOf 20 = .ok (.invokevirtual 75, 3) := dk_182 0 75 (dk_at dksX7_patienceOf_0 20 rfl rfl)
theorem dX7_patienceOf_23 : decode cX7_patienceOf 23 = .ok (.ireturn, 1) := dk_172 (dk_at dksX7_patienceOf_0 23 rfl rfl)
abbrev iX7_patienceOf : xM := (yX7_patienceOf, cX7_patienceOf, 2, (some .int), [])
theorem mX7_patienceOf : xOkM iX7_patienceOf := ⟨by decide +kernel, by decide, q4066, q175⟩
abbrev cX7_deviation : ByteArray := prog_15_method_112_code
def yX7_deviation : MethodName := ⟨RX7, "deviation", "(II)I"⟩
def dkwX7_deviation_1 : List UInt8 := [182, 0, 136, 153, 0, 7, 3, 167, 0, 12, 42, 27, 16, 9, 28, 96, 182, 0, 75, 172]
abbrev dktX7_deviation_1 : List UInt8 := dkwX7_deviation_1 ++ []
def dkwX7_deviation_0 : List UInt8 := [42, 3, 181, 0, 72, 42, 27, 28, 182, 1, 132, 154, 0, 17, 42, 42, 27, 28, 182, 0, 85, 5]
abbrev dktX7_deviation_0 : List UInt8 := dkwX7_deviation_0 ++ dktX7_deviation_1
theorem dksX7_deviation_0 : cX7_deviation.data.toList.drop 0 = dktX7_deviation_0 := by decide +kernel
theorem dksX7_deviation_1 : cX7_deviation.data.toList.drop 22 = dktX7_deviation_1 := dk_seg dksX7_deviation_0 22 rfl rfl
theorem dX7_deviation_0 : decode cX7_deviation 0 = .ok (.aload_n 0, 1) := dk_42 (dk_at dksX7_deviation_0 0 rfl rfl)
theorem dX7_deviation_1 : decode cX7_deviation 1 = .ok (.iconst 0, 1) := dk_3 (dk_at dksX7_deviation_0 1 rfl rfl)
theorem dX7_deviation_2 : decode cX7_deviation 2 = .ok (.putfield 72, 3) := dk_181 0 72 (dk_at dksX7_deviation_0 2 rfl rfl)
theorem dX7_deviation_5 : decode cX7_deviation 5 = .ok (.aload_n 0, 1) := dk_42 (dk_at dksX7_deviation_0 5 rfl rfl)
theorem dX7_deviation_6 : decode cX7_deviation 6 = .ok (.iload_n 1, 1) := dk_27 (dk_at dksX7_deviation_0 6 rfl rfl)
theorem dX7_deviation_7 : decode cX7_deviation 7 = .ok (.iload_n 2, 1) := dk_28 (dk_at dksX7_deviation_0 7 rfl rfl)
theorem dX7_deviation_8 : decode cX7_deviation 8 = .ok (.invokevirtual 388, 3) := dk_182 1 132 (dk_at dksX7_deviation_0 8 rfl rfl)
theorem dX7_deviation_11 : decode cX7_deviation 11 = .ok (.ifCond .ne 17, 3) := dk_154 0 17 (dk_at dksX7_deviation_0 11 rfl rfl)
theorem dX7_deviation_14 : decode cX7_deviation 14 = .ok (.aload_n 0, 1) := dk_42 (dk_at dksX7_deviation_0 14 rfl rfl)
theorem dX7_deviation_15 : decode cX7_deviation 15 = .ok (.aload_n 0, 1) := dk_42 (dk_at dksX7_deviation_0 15 rfl rfl)
theorem dX7_deviation_16 : decode cX7_deviation 16 = .ok (.iload_n 1, 1) := dk_27 (dk_at dksX7_deviation_0 16 rfl rfl)
theorem dX7_deviation_17 : decode cX7_deviation 17 = .ok (.iload_n 2, 1) := dk_28 (dk_at dksX7_deviation_0 17 rfl rfl)
theorem dX7_deviation_18 : decode cX7_deviation 18 = .ok (.invokevirtual 85, 3) := dk_182 0 85 (dk_at dksX7_deviation_0 18 rfl rfl)
theorem dX7_deviation_21 : decode cX7_deviation 21 = .ok (.iconst 2, 1) := dk_5 (dk_at dksX7_deviation_0 21 rfl rfl)
theorem dX7_deviation_22 : decode cX7_deviation 22 = .ok (.invokevirtual 136, 3) := dk_182 0 136 (dk_at dksX7_deviation_1 0 rfl rfl)
theorem dX7_deviation_25 : decode cX7_deviation 25 = .ok (.ifCond .eq 7, 3) := dk_153 0 7 (dk_at dksX7_deviation_1 3 rfl rfl)
theorem dX7_deviation_28 : decode cX7_deviation 28 = .ok (.iconst 0, 1) := dk_3 (dk_at dksX7_deviation_1 6 rfl rfl)
theorem dX7_deviation_29 : decode cX7_deviation 29 = .ok (.goto 12, 3) := dk_167 0 12 (dk_at dksX7_deviation_1 7 rfl rfl)
theorem dX7_deviation_32 : decode cX7_deviation 32 = .ok (.aload_n 0, 1) := dk_42 (dk_at dksX7_deviation_1 10 rfl rfl)
theorem dX7_deviation_33 : decode cX7_deviation 33 = .ok (.iload_n 1, 1) := dk_27 (dk_at dksX7_deviation_1 11 rfl rfl)
theorem dX7_deviation_34 : decode cX7_deviation 34 = .ok (.bipush 9, 2) := dk_16 9 (dk_at dksX7_deviation_1 12 rfl rfl)
theorem dX7_deviation_36 : decode cX7_deviation 36 = .ok (.iload_n 2, 1) := dk_28 (dk_at dksX7_deviation_1 14 rfl rfl)
theorem dX7_deviation_37 : decode cX7_deviation 37 = .ok (.iadd, 1) := dk_96 (dk_at dksX7_deviation_1 15 rfl rfl)
theorem dX7_deviation_38 : decode cX7_deviation 38 = .ok (.invokevirtual 75, 3) := dk_182 0 75 (dk_at dksX7_deviation_1 16 rfl rfl)
theorem dX7_deviation_41 : decode cX7_deviation 41 = .ok (.ireturn, 1) := dk_172 (dk_at dksX7_deviation_1 19 rfl rfl)
abbrev iX7_deviation : xM := (yX7_deviation, cX7_deviation, 3, (some .int), [])
theorem mX7_deviation : xOkM iX7_deviation := ⟨by decide +kernel, by decide, q4070, q175⟩
abbrev cX7_grip : ByteArray := prog_15_method_113_code
def yX7_grip : MethodName := ⟨RX7, "grip", "(II)I"⟩
def dkwX7_grip_1 : List UInt8 := [182, 0, 75, 172]
abbrev dktX7_grip_1 : List UInt8 := dkwX7_grip_1 ++ []
def dkwX7_grip_0 : List UInt8 := [42, 3, 181, 0, 72, 42, 27, 28, 182, 1, 132, 153, 0, 7, 3, 167, 0, 12, 42, 27, 16, 17, 28, 96]
abbrev dktX7_grip_0 : List UInt8 := dkwX7_grip_0 ++ dktX7_grip_1
theorem dksX7_grip_0 : cX7_grip.data.toList.drop 0 = dktX7_grip_0 := by decide +kernel
theorem dksX7_grip_1 : cX7_grip.data.toList.drop 24 = dktX7_grip_1 := dk_seg dksX7_grip_0 24 rfl rfl
theorem dX7_grip_0 : decode cX7_grip 0 = .ok (.aload_n 0, 1) := dk_42 (dk_at dksX7_grip_0 0 rfl rfl)
theorem dX7_grip_1 : decode cX7_grip 1 = .ok (.iconst 0, 1) := dk_3 (dk_at dksX7_grip_0 1 rfl rfl)
theorem dX7_grip_2 : decode cX7_grip 2 = .ok (.putfield 72, 3) := dk_181 0 72 (dk_at dksX7_grip_0 2 rfl rfl)
theorem dX7_grip_5 : decode cX7_grip 5 = .ok (.aload_n 0, 1) := dk_42 (dk_at dksX7_grip_0 5 rfl rfl)
theorem dX7_grip_6 : decode cX7_grip 6 = .ok (.iload_n 1, 1) := dk_27 (dk_at dksX7_grip_0 6 rfl rfl)
theorem dX7_grip_7 : decode cX7_grip 7 = .ok (.iload_n 2, 1) := dk_28 (dk_at dksX7_grip_0 7 rfl rfl)
theorem dX7_grip_8 : decode cX7_grip 8 = .ok (.invokevirtual 388, 3) := dk_182 1 132 (dk_at dksX7_grip_0 8 rfl rfl)
theorem dX7_grip_11 : decode cX7_grip 11 = .ok (.ifCond .eq 7, 3) := dk_153 0 7 (dk_at dksX7_grip_0 11 rfl rfl)
theorem dX7_grip_14 : decode cX7_grip 14 = .ok (.iconst 0, 1) := dk_3 (dk_at dksX7_grip_0 14 rfl rfl)
theorem dX7_grip_15 : decode cX7_grip 15 = .ok (.goto 12, 3) := dk_167 0 12 (dk_at dksX7_grip_0 15 rfl rfl)
theorem dX7_grip_18 : decode cX7_grip 18 = .ok (.aload_n 0, 1) := dk_42 (dk_at dksX7_grip_0 18 rfl rfl)
theorem dX7_grip_19 : decode cX7_grip 19 = .ok (.iload_n 1, 1) := dk_27 (dk_at dksX7_grip_0 19 rfl rfl)
theorem dX7_grip_20 : decode cX7_grip 20 = .ok (.bipush 17, 2) := dk_16 17 (dk_at dksX7_grip_0 20 rfl rfl)
theorem dX7_grip_22 : decode cX7_grip 22 = .ok (.iload_n 2, 1) := dk_28 (dk_at dksX7_grip_0 22 rfl rfl)
theorem dX7_grip_23 : decode cX7_grip 23 = .ok (.iadd, 1) := dk_96 (dk_at dksX7_grip_0 23 rfl rfl)
theorem dX7_grip_24 : decode cX7_grip 24 = .ok (.invokevirtual 75, 3) := dk_182 0 75 (dk_at dksX7_grip_1 0 rfl rfl)
theorem dX7_grip_27 : decode cX7_grip 27 = .ok (.ireturn, 1) := dk_172 (dk_at dksX7_grip_1 3 rfl rfl)
abbrev iX7_grip : xM := (yX7_grip, cX7_grip, 3, (some .int), [])
theorem mX7_grip : xOkM iX7_grip := ⟨by decide +kernel, by decide, q4074, q175⟩
abbrev cX7_isBroken : ByteArray := prog_15_method_114_code
def yX7_isBroken : MethodName := ⟨RX7, "isBroken", "(II)Z"⟩
def dkwX7_isBroken_1 : List UInt8 := [167, 0, 4, 3, 172]
abbrev dktX7_isBroken_1 : List UInt8 := dkwX7_isBroken_1 ++ []
def dkwX7_isBroken_0 : List UInt8 := [42, 3, 181, 0, 72, 42, 27, 28, 182, 1, 132, 154, 0, 16, 42, 27, 28, 182, 0, 85, 153, 0, 7, 4]
abbrev dktX7_isBroken_0 : List UInt8 := dkwX7_isBroken_0 ++ dktX7_isBroken_1
theorem dksX7_isBroken_0 : cX7_isBroken.data.toList.drop 0 = dktX7_isBroken_0 := by decide +kernel
theorem dksX7_isBroken_1 : cX7_isBroken.data.toList.drop 24 = dktX7_isBroken_1 := dk_seg dksX7_isBroken_0 24 rfl rfl
theorem dX7_isBroken_0 : decode cX7_isBroken 0 = .ok (.aload_n 0, 1) := dk_42 (dk_at dksX7_isBroken_0 0 rfl rfl)
theorem dX7_isBroken_1 : decode cX7_isBroken 1 = .ok (.iconst 0, 1) := dk_3 (dk_at dksX7_isBroken_0 1 rfl rfl)
theorem dX7_isBroken_2 : decode cX7_isBroken 2 = .ok (.putfield 72, 3) := dk_181 0 72 (dk_at dksX7_isBroken_0 2 rfl rfl)
theorem dX7_isBroken_5 : decode cX7_isBroken 5 = .ok (.aload_n 0, 1) := dk_42 (dk_at dksX7_isBroken_0 5 rfl rfl)
theorem dX7_isBroken_6 : decode cX7_isBroken 6 = .ok (.iload_n 1, 1) := dk_27 (dk_at dksX7_isBroken_0 6 rfl rfl)
theorem dX7_isBroken_7 : decode cX7_isBroken 7 = .ok (.iload_n 2, 1) := dk_28 (dk_at dksX7_isBroken_0 7 rfl rfl)
theorem dX7_isBroken_8 : decode cX7_isBroken 8 = .ok (.invokevirtual 388, 3) := dk_182 1 132 (dk_at dksX7_isBroken_0 8 rfl rfl)
theorem dX7_isBroken_11 : decode cX7_isBroken 11 = .ok (.ifCond .ne 16, 3) := dk_154 0 16 (dk_at dksX7_isBroken_0 11 rfl rfl)
theorem dX7_isBroken_14 : decode cX7_isBroken 14 = .ok (.aload_n 0, 1) := dk_42 (dk_at dksX7_isBroken_0 14 rfl rfl)
theorem dX7_isBroken_15 : decode cX7_isBroken 15 = .ok (.iload_n 1, 1) := dk_27 (dk_at dksX7_isBroken_0 15 rfl rfl)
theorem dX7_isBroken_16 : decode cX7_isBroken 16 = .ok (.iload_n 2, 1) := dk_28 (dk_at dksX7_isBroken_0 16 rfl rfl)
theorem dX7_isBroken_17 : decode cX7_isBroken 17 = .ok (.invokevirtual 85, 3) := dk_182 0 85 (dk_at dksX7_isBroken_0 17 rfl rfl)
theorem dX7_isBroken_20 : decode cX7_isBroken 20 = .ok (.ifCond .eq 7, 3) := dk_153 0 7 (dk_at dksX7_isBroken_0 20 rfl rfl)
theorem dX7_isBroken_23 : decode cX7_isBroken 23 = .ok (.iconst 1, 1) := dk_4 (dk_at dksX7_isBroken_0 23 rfl rfl)
theorem dX7_isBroken_24 : decode cX7_isBroken 24 = .ok (.goto 4, 3) := dk_167 0 4 (dk_at dksX7_isBroken_1 0 rfl rfl)
theorem dX7_isBroken_27 : decode cX7_isBroken 27 = .ok (.iconst 0, 1) := dk_3 (dk_at dksX7_isBroken_1 3 rfl rfl)
theorem dX7_isBroken_28 : decode cX7_isBroken 28 = .ok (.ireturn, 1) := dk_172 (dk_at dksX7_isBroken_1 4 rfl rfl)
abbrev iX7_isBroken : xM := (yX7_isBroken, cX7_isBroken, 3, (some .boolean), [])
theorem mX7_isBroken : xOkM iX7_isBroken := ⟨by decide +kernel, by decide, q4078, q175⟩
abbrev cX7_widestGap : ByteArray := prog_15_method_115_code
def yX7_widestGap : MethodName := ⟨RX7, "widestGap", "(I)I"⟩
def dkwX7_widestGap_5 : List UInt8 := [61, 132, 3, 1, 167, 255, 169, 28, 172]
abbrev dktX7_widestGap_5 : List UInt8 := dkwX7_widestGap_5 ++ []
def dkwX7_widestGap_4 : List UInt8 := [16, 9, 27, 96, 182, 0, 75, 42, 21, 5, 16, 9, 27, 96, 182, 0, 75, 100, 184, 0, 93, 184, 0, 82]
abbrev dktX7_widestGap_4 : List UInt8 := dkwX7_widestGap_4 ++ dktX7_widestGap_5
def dkwX7_widestGap_3 : List UInt8 := [21, 4, 27, 182, 0, 85, 154, 0, 42, 42, 21, 5, 27, 182, 0, 85, 154, 0, 32, 28, 42, 21, 4]
abbrev dktX7_widestGap_3 : List UInt8 := dkwX7_widestGap_3 ++ dktX7_widestGap_4
def dkwX7_widestGap_2 : List UInt8 := [180, 0, 7, 16, 20, 29, 96, 46, 54, 4, 42, 180, 0, 7, 16, 20, 29, 96, 4, 100, 46, 54, 5, 42]
abbrev dktX7_widestGap_2 : List UInt8 := dkwX7_widestGap_2 ++ dktX7_widestGap_3
def dkwX7_widestGap_1 : List UInt8 := [182, 0, 136, 153, 0, 5, 3, 172, 3, 61, 4, 62, 29, 42, 180, 0, 7, 16, 14, 46, 162, 0, 82, 42]
abbrev dktX7_widestGap_1 : List UInt8 := dkwX7_widestGap_1 ++ dktX7_widestGap_2
def dkwX7_widestGap_0 : List UInt8 := [42, 3, 181, 0, 72, 42, 27, 133, 9, 20, 1, 130, 184, 0, 144, 154, 0, 7, 4, 167, 0, 4, 3, 4]
abbrev dktX7_widestGap_0 : List UInt8 := dkwX7_widestGap_0 ++ dktX7_widestGap_1
theorem dksX7_widestGap_0 : cX7_widestGap.data.toList.drop 0 = dktX7_widestGap_0 := by decide +kernel
theorem dksX7_widestGap_1 : cX7_widestGap.data.toList.drop 24 = dktX7_widestGap_1 := dk_seg dksX7_widestGap_0 24 rfl rfl
theorem dksX7_widestGap_2 : cX7_widestGap.data.toList.drop 48 = dktX7_widestGap_2 := dk_seg dksX7_widestGap_1 24 rfl rfl
theorem dksX7_widestGap_3 : cX7_widestGap.data.toList.drop 72 = dktX7_widestGap_3 := dk_seg dksX7_widestGap_2 24 rfl rfl
theorem dksX7_widestGap_4 : cX7_widestGap.data.toList.drop 95 = dktX7_widestGap_4 := dk_seg dksX7_widestGap_3 23 rfl rfl
theorem dksX7_widestGap_5 : cX7_widestGap.data.toList.drop 119 = dktX7_widestGap_5 := dk_seg dksX7_widestGap_4 24 rfl rfl
theorem dX7_widestGap_0 : decode cX7_widestGap 0 = .ok (.aload_n 0, 1) := dk_42 (dk_at dksX7_widestGap_0 0 rfl rfl)
theorem dX7_widestGap_1 : decode cX7_widestGap 1 = .ok (.iconst 0, 1) := dk_3 (dk_at dksX7_widestGap_0 1 rfl rfl)
theorem dX7_widestGap_2 : decode cX7_widestGap 2 = .ok (.putfield 72, 3) := dk_181 0 72 (dk_at dksX7_widestGap_0 2 rfl rfl)
theorem dX7_widestGap_5 : decode cX7_widestGap 5 = .ok (.aload_n 0, 1) := dk_42 (dk_at dksX7_widestGap_0 5 rfl rfl)
theorem dX7_widestGap_6 : decode cX7_widestGap 6 = .ok (.iload_n 1, 1) := dk_27 (dk_at dksX7_widestGap_0 6 rfl rfl)
theorem dX7_widestGap_7 : decode cX7_widestGap 7 = .ok (.i2l, 1) := dk_133 (dk_at dksX7_widestGap_0 7 rfl rfl)
theorem dX7_widestGap_8 : decode cX7_widestGap 8 = .ok (.lconst 0, 1) := dk_9 (dk_at dksX7_widestGap_0 8 rfl rfl)
theorem dX7_widestGap_9 : decode cX7_widestGap 9 = .ok (.ldc2_w 386, 3) := dk_20 1 130 (dk_at dksX7_widestGap_0 9 rfl rfl)
theorem dX7_widestGap_12 : decode cX7_widestGap 12 = .ok (.invokestatic 144, 3) := dk_184 0 144 (dk_at dksX7_widestGap_0 12 rfl rfl)
theorem dX7_widestGap_15 : decode cX7_widestGap 15 = .ok (.ifCond .ne 7, 3) := dk_154 0 7 (dk_at dksX7_widestGap_0 15 rfl rfl)
theorem dX7_widestGap_18 : decode cX7_widestGap 18 = .ok (.iconst 1, 1) := dk_4 (dk_at dksX7_widestGap_0 18 rfl rfl)
theorem dX7_widestGap_19 : decode cX7_widestGap 19 = .ok (.goto 4, 3) := dk_167 0 4 (dk_at dksX7_widestGap_0 19 rfl rfl)
theorem dX7_widestGap_22 : decode cX7_widestGap 22 = .ok (.iconst 0, 1) := dk_3 (dk_at dksX7_widestGap_0 22 rfl rfl)
theorem dX7_widestGap_23 : decode cX7_widestGap 23 = .ok (.iconst 1, 1) := dk_4 (dk_at dksX7_widestGap_0 23 rfl rfl)
theorem dX7_widestGap_24 : decode cX7_widestGap 24 = .ok (.invokevirtual 136, 3) := dk_182 0 136 (dk_at dksX7_widestGap_1 0 rfl rfl)
theorem dX7_widestGap_27 : decode cX7_widestGap 27 = .ok (.ifCond .eq 5, 3) := dk_153 0 5 (dk_at dksX7_widestGap_1 3 rfl rfl)
theorem dX7_widestGap_30 : decode cX7_widestGap 30 = .ok (.iconst 0, 1) := dk_3 (dk_at dksX7_widestGap_1 6 rfl rfl)
theorem dX7_widestGap_31 : decode cX7_widestGap 31 = .ok (.ireturn, 1) := dk_172 (dk_at dksX7_widestGap_1 7 rfl rfl)
theorem dX7_widestGap_32 : decode cX7_widestGap 32 = .ok (.iconst 0, 1) := dk_3 (dk_at dksX7_widestGap_1 8 rfl rfl)
theorem dX7_widestGap_33 : decode cX7_widestGap 33 = .ok (.istore_n 2, 1) := dk_61 (dk_at dksX7_widestGap_1 9 rfl rfl)
theorem dX7_widestGap_34 : decode cX7_widestGap 34 = .ok (.iconst 1, 1) := dk_4 (dk_at dksX7_widestGap_1 10 rfl rfl)
theorem dX7_widestGap_35 : decode cX7_widestGap 35 = .ok (.istore_n 3, 1) := dk_62 (dk_at dksX7_widestGap_1 11 rfl rfl)
theorem dX7_widestGap_36 : decode cX7_widestGap 36 = .ok (.iload_n 3, 1) := dk_29 (dk_at dksX7_widestGap_1 12 rfl rfl)
theorem dX7_widestGap_37 : decode cX7_widestGap 37 = .ok (.aload_n 0, 1) := dk_42 (dk_at dksX7_widestGap_1 13 rfl rfl)
theorem dX7_widestGap_38 : decode cX7_widestGap 38 = .ok (.getfield 7, 3) := dk_180 0 7 (dk_at dksX7_widestGap_1 14 rfl rfl)
theorem dX7_widestGap_41 : decode cX7_widestGap 41 = .ok (.bipush 14, 2) := dk_16 14 (dk_at dksX7_widestGap_1 17 rfl rfl)
theorem dX7_widestGap_43 : decode cX7_widestGap 43 = .ok (.iaload, 1) := dk_46 (dk_at dksX7_widestGap_1 19 rfl rfl)
theorem dX7_widestGap_44 : decode cX7_widestGap 44 = .ok (.if_icmp .ge 82, 3) := dk_162 0 82 (dk_at dksX7_widestGap_1 20 rfl rfl)
theorem dX7_widestGap_47 : decode cX7_widestGap 47 = .ok (.aload_n 0, 1) := dk_42 (dk_at dksX7_widestGap_1 23 rfl rfl)
theorem dX7_widestGap_48 : decode cX7_widestGap 48 = .ok (.getfield 7, 3) := dk_180 0 7 (dk_at dksX7_widestGap_2 0 rfl rfl)
theorem dX7_widestGap_51 : decode cX7_widestGap 51 = .ok (.bipush 20, 2) := dk_16 20 (dk_at dksX7_widestGap_2 3 rfl rfl)
theorem dX7_widestGap_53 : decode cX7_widestGap 53 = .ok (.iload_n 3, 1) := dk_29 (dk_at dksX7_widestGap_2 5 rfl rfl)
theorem dX7_widestGap_54 : decode cX7_widestGap 54 = .ok (.iadd, 1) := dk_96 (dk_at dksX7_widestGap_2 6 rfl rfl)
theorem dX7_widestGap_55 : decode cX7_widestGap 55 = .ok (.iaload, 1) := dk_46 (dk_at dksX7_widestGap_2 7 rfl rfl)
theorem dX7_widestGap_56 : decode cX7_widestGap 56 = .ok (.istore 4, 2) := dk_54 4 (dk_at dksX7_widestGap_2 8 rfl rfl)
theorem dX7_widestGap_58 : decode cX7_widestGap 58 = .ok (.aload_n 0, 1) := dk_42 (dk_at dksX7_widestGap_2 10 rfl rfl)
theorem dX7_widestGap_59 : decode cX7_widestGap 59 = .ok (.getfield 7, 3) := dk_180 0 7 (dk_at dksX7_widestGap_2 11 rfl rfl)
theorem dX7_widestGap_62 : decode cX7_widestGap 62 = .ok (.bipush 20, 2) := dk_16 20 (dk_at dksX7_widestGap_2 14 rfl rfl)
theorem dX7_widestGap_64 : decode cX7_widestGap 64 = .ok (.iload_n 3, 1) := dk_29 (dk_at dksX7_widestGap_2 16 rfl rfl)
theorem dX7_widestGap_65 : decode cX7_widestGap 65 = .ok (.iadd, 1) := dk_96 (dk_at dksX7_widestGap_2 17 rfl rfl)
theorem dX7_widestGap_66 : decode cX7_widestGap 66 = .ok (.iconst 1, 1) := dk_4 (dk_at dksX7_widestGap_2 18 rfl rfl)
theorem dX7_widestGap_67 : decode cX7_widestGap 67 = .ok (.isub, 1) := dk_100 (dk_at dksX7_widestGap_2 19 rfl rfl)
theorem dX7_widestGap_68 : decode cX7_widestGap 68 = .ok (.iaload, 1) := dk_46 (dk_at dksX7_widestGap_2 20 rfl rfl)
theorem dX7_widestGap_69 : decode cX7_widestGap 69 = .ok (.istore 5, 2) := dk_54 5 (dk_at dksX7_widestGap_2 21 rfl rfl)
theorem dX7_widestGap_71 : decode cX7_widestGap 71 = .ok (.aload_n 0, 1) := dk_42 (dk_at dksX7_widestGap_2 23 rfl rfl)
theorem dX7_widestGap_72 : decode cX7_widestGap 72 = .ok (.iload 4, 2) := dk_21 4 (dk_at dksX7_widestGap_3 0 rfl rfl)
theorem dX7_widestGap_74 : decode cX7_widestGap 74 = .ok (.iload_n 1, 1) := dk_27 (dk_at dksX7_widestGap_3 2 rfl rfl)
theorem dX7_widestGap_75 : decode cX7_widestGap 75 = .ok (.invokevirtual 85, 3) := dk_182 0 85 (dk_at dksX7_widestGap_3 3 rfl rfl)
theorem dX7_widestGap_78 : decode cX7_widestGap 78 = .ok (.ifCond .ne 42, 3) := dk_154 0 42 (dk_at dksX7_widestGap_3 6 rfl rfl)
theorem dX7_widestGap_81 : decode cX7_widestGap 81 = .ok (.aload_n 0, 1) := dk_42 (dk_at dksX7_widestGap_3 9 rfl rfl)
theorem dX7_widestGap_82 : decode cX7_widestGap 82 = .ok (.iload 5, 2) := dk_21 5 (dk_at dksX7_widestGap_3 10 rfl rfl)
theorem dX7_widestGap_84 : decode cX7_widestGap 84 = .ok (.iload_n 1, 1) := dk_27 (dk_at dksX7_widestGap_3 12 rfl rfl)
theorem dX7_widestGap_85 : decode cX7_widestGap 85 = .ok (.invokevirtual 85, 3) := dk_182 0 85 (dk_at dksX7_widestGap_3 13 rfl rfl)
theorem dX7_widestGap_88 : decode cX7_widestGap 88 = .ok (.ifCond .ne 32, 3) := dk_154 0 32 (dk_at dksX7_widestGap_3 16 rfl rfl)
theorem dX7_widestGap_91 : decode cX7_widestGap 91 = .ok (.iload_n 2, 1) := dk_28 (dk_at dksX7_widestGap_3 19 rfl rfl)
theorem dX7_widestGap_92 : decode cX7_widestGap 92 = .ok (.aload_n 0, 1) := dk_42 (dk_at dksX7_widestGap_3 20 rfl rfl)
theorem dX7_widestGap_93 : decode cX7_widestGap 93 = .ok (.iload 4, 2) := dk_21 4 (dk_at dksX7_widestGap_3 21 rfl rfl)
theorem dX7_widestGap_95 : decode cX7_widestGap 95 = .ok (.bipush 9, 2) := dk_16 9 (dk_at dksX7_widestGap_4 0 rfl rfl)
theorem dX7_widestGap_97 : decode cX7_widestGap 97 = .ok (.iload_n 1, 1) := dk_27 (dk_at dksX7_widestGap_4 2 rfl rfl)
theorem dX7_widestGap_98 : decode cX7_widestGap 98 = .ok (.iadd, 1) := dk_96 (dk_at dksX7_widestGap_4 3 rfl rfl)
theorem dX7_widestGap_99 : decode cX7_widestGap 99 = .ok (.invokevirtual 75, 3) := dk_182 0 75 (dk_at dksX7_widestGap_4 4 rfl rfl)
theorem dX7_widestGap_102 : decode cX7_widestGap 102 = .ok (.aload_n 0, 1) := dk_42 (dk_at dksX7_widestGap_4 7 rfl rfl)
theorem dX7_widestGap_103 : decode cX7_widestGap 103 = .ok (.iload 5, 2) := dk_21 5 (dk_at dksX7_widestGap_4 8 rfl rfl)
theorem dX7_widestGap_105 : decode cX7_widestGap 105 = .ok (.bipush 9, 2) := dk_16 9 (dk_at dksX7_widestGap_4 10 rfl rfl)
theorem dX7_widestGap_107 : decode cX7_widestGap 107 = .ok (.iload_n 1, 1) := dk_27 (dk_at dksX7_widestGap_4 12 rfl rfl)
theorem dX7_widestGap_108 : decode cX7_widestGap 108 = .ok (.iadd, 1) := dk_96 (dk_at dksX7_widestGap_4 13 rfl rfl)
theorem dX7_widestGap_109 : decode cX7_widestGap 109 = .ok (.invokevirtual 75, 3) := dk_182 0 75 (dk_at dksX7_widestGap_4 14 rfl rfl)
theorem dX7_widestGap_112 : decode cX7_widestGap 112 = .ok (.isub, 1) := dk_100 (dk_at dksX7_widestGap_4 17 rfl rfl)
theorem dX7_widestGap_113 : decode cX7_widestGap 113 = .ok (.invokestatic 93, 3) := dk_184 0 93 (dk_at dksX7_widestGap_4 18 rfl rfl)
theorem dX7_widestGap_116 : decode cX7_widestGap 116 = .ok (.invokestatic 82, 3) := dk_184 0 82 (dk_at dksX7_widestGap_4 21 rfl rfl)
theorem dX7_widestGap_119 : decode cX7_widestGap 119 = .ok (.istore_n 2, 1) := dk_61 (dk_at dksX7_widestGap_5 0 rfl rfl)
theorem dX7_widestGap_120 : decode cX7_widestGap 120 = .ok (.iinc 3 1, 3) := dk_132 3 1 (dk_at dksX7_widestGap_5 1 rfl rfl)
theorem dX7_widestGap_123 : decode cX7_widestGap 123 = .ok (.goto (-87), 3) := dk_167 255 169 (dk_at dksX7_widestGap_5 4 rfl rfl)
theorem dX7_widestGap_126 : decode cX7_widestGap 126 = .ok (.iload_n 2, 1) := dk_28 (dk_at dksX7_widestGap_5 7 rfl rfl)
theorem dX7_widestGap_127 : decode cX7_widestGap 127 = .ok (.ireturn, 1) := dk_172 (dk_at dksX7_widestGap_5 8 rfl rfl)
abbrev iX7_widestGap : xM := (yX7_widestGap, cX7_widestGap, 6, (some .int), [])
theorem mX7_widestGap : xOkM iX7_widestGap := ⟨by decide +kernel, by decide, q4082, q175⟩
abbrev cX7_worstFiddler : ByteArray := prog_15_method_117_code
def yX7_worstFiddler : MethodName := ⟨RX7, "worstFiddler", "()I"⟩
def dkwX7_worstFiddler_2 : List UInt8 := [180, 0, 7, 16, 20, 29, 96, 46, 60, 132, 3, 1, 167, 255, 208, 27, 172]
abbrev dktX7_worstFiddler_2 : List UInt8 := dkwX7_worstFiddler_2 ++ []
def dkwX7_worstFiddler_1 : List UInt8 := [180, 0, 7, 16, 20, 29, 96, 46, 182, 1, 156, 54, 4, 21, 4, 28, 164, 0, 16, 21, 4, 61, 42]
abbrev dktX7_worstFiddler_1 : List UInt8 := dkwX7_worstFiddler_1 ++ dktX7_worstFiddler_2
def dkwX7_worstFiddler_0 : List UInt8 := [42, 3, 181, 0, 72, 2, 60, 2, 61, 3, 62, 29, 42, 180, 0, 7, 16, 14, 46, 162, 0, 43, 42, 42]
abbrev dktX7_worstFiddler_0 : List UInt8 := dkwX7_worstFiddler_0 ++ dktX7_worstFiddler_1
theorem dksX7_worstFiddler_0 : cX7_worstFiddler.data.toList.drop 0 = dktX7_worstFiddler_0 := by decide +kernel
theorem dksX7_worstFiddler_1 : cX7_worstFiddler.data.toList.drop 24 = dktX7_worstFiddler_1 := dk_seg dksX7_worstFiddler_0 24 rfl rfl
theorem dksX7_worstFiddler_2 : cX7_worstFiddler.data.toList.drop 47 = dktX7_worstFiddler_2 := dk_seg dksX7_worstFiddler_1 23 rfl rfl
theorem dX7_worstFiddler_0 : decode cX7_worstFiddler 0 = .ok (.aload_n 0, 1) := dk_42 (dk_at dksX7_worstFiddler_0 0 rfl rfl)
theorem dX7_worstFiddler_1 : decode cX7_worstFiddler 1 = .ok (.iconst 0, 1) := dk_3 (dk_at dksX7_worstFiddler_0 1 rfl rfl)
theorem dX7_worstFiddler_2 : decode cX7_worstFiddler 2 = .ok (.putfield 72, 3) := dk_181 0 72 (dk_at dksX7_worstFiddler_0 2 rfl rfl)
theorem dX7_worstFiddler_5 : decode cX7_worstFiddler 5 = .ok (.iconst (-1), 1) := dk_2 (dk_at dksX7_worstFiddler_0 5 rfl rfl)
theorem dX7_worstFiddler_6 : decode cX7_worstFiddler 6 = .ok (.istore_n 1, 1) := dk_60 (dk_at dksX7_worstFiddler_0 6 rfl rfl)
theorem dX7_worstFiddler_7 : decode cX7_worstFiddler 7 = .ok (.iconst (-1), 1) := dk_2 (dk_at dksX7_worstFiddler_0 7 rfl rfl)
theorem dX7_worstFiddler_8 : decode cX7_worstFiddler 8 = .ok (.istore_n 2, 1) := dk_61 (dk_at dksX7_worstFiddler_0 8 rfl rfl)
theorem dX7_worstFiddler_9 : decode cX7_worstFiddler 9 = .ok (.iconst 0, 1) := dk_3 (dk_at dksX7_worstFiddler_0 9 rfl rfl)
theorem dX7_worstFiddler_10 : decode cX7_worstFiddler 10 = .ok (.istore_n 3, 1) := dk_62 (dk_at dksX7_worstFiddler_0 10 rfl rfl)
theorem dX7_worstFiddler_11 : decode cX7_worstFiddler 11 = .ok (.iload_n 3, 1) := dk_29 (dk_at dksX7_worstFiddler_0 11 rfl rfl)
theorem dX7_worstFiddler_12 : decode cX7_worstFiddler 12 = .ok (.aload_n 0, 1) := dk_42 (dk_at dksX7_worstFiddler_0 12 rfl rfl)
theorem dX7_worstFiddler_13 : decode cX7_worstFiddler 13 = .ok (.getfield 7, 3) := dk_180 0 7 (dk_at dksX7_worstFiddler_0 13 rfl rfl)
theorem dX7_worstFiddler_16 : decode cX7_worstFiddler 16 = .ok (.bipush 14, 2) := dk_16 14 (dk_at dksX7_worstFiddler_0 16 rfl rfl)
theorem dX7_worstFiddler_18 : decode cX7_worstFiddler 18 = .ok (.iaload, 1) := dk_46 (dk_at dksX7_worstFiddler_0 18 rfl rfl)
theorem dX7_worstFiddler_19 : decode cX7_worstFiddler 19 = .ok (.if_icmp .ge 43, 3) := dk_162 0 43 (dk_at dksX7_worstFiddler_0 19 rfl rfl)
theorem dX7_worstFiddler_22 : decode cX7_worstFiddler 22 = .ok (.aload_n 0, 1) := dk_42 (dk_at dksX7_worstFiddler_0 22 rfl rfl)
theorem dX7_worstFiddler_23 : decode cX7_worstFiddler 23 = .ok (.aload_n 0, 1) := dk_42 (dk_at dksX7_worstFiddler_0 23 rfl rfl)
theorem dX7_worstFiddler_24 : decode cX7_worstFiddler 24 = .ok (.getfield 7, 3) := dk_180 0 7 (dk_at dksX7_worstFiddler_1 0 rfl rfl)
theorem dX7_worstFiddler_27 : decode cX7_worstFiddler 27 = .ok (.bipush 20, 2) := dk_16 20 (dk_at dksX7_worstFiddler_1 3 rfl rfl)
theorem dX7_worstFiddler_29 : decode cX7_worstFiddler 29 = .ok (.iload_n 3, 1) := dk_29 (dk_at dksX7_worstFiddler_1 5 rfl rfl)
theorem dX7_worstFiddler_30 : decode cX7_worstFiddler 30 = .ok (.iadd, 1) := dk_96 (dk_at dksX7_worstFiddler_1 6 rfl rfl)
theorem dX7_worstFiddler_31 : decode cX7_worstFiddler 31 = .ok (.iaload, 1) := dk_46 (dk_at dksX7_worstFiddler_1 7 rfl rfl)
theorem dX7_worstFiddler_32 : decode cX7_worstFiddler 32 = .ok (.invokevirtual 412, 3) := dk_182 1 156 (dk_at dksX7_worstFiddler_1 8 rfl rfl)
theorem dX7_worstFiddler_35 : decode cX7_worstFiddler 35 = .ok (.istore 4, 2) := dk_54 4 (dk_at dksX7_worstFiddler_1 11 rfl rfl)
theorem dX7_worstFiddler_37 : decode cX7_worstFiddler 37 = .ok (.iload 4, 2) := dk_21 4 (dk_at dksX7_worstFiddler_1 13 rfl rfl)
theorem dX7_worstFiddler_39 : decode cX7_worstFiddler 39 = .ok (.iload_n 2, 1) := dk_28 (dk_at dksX7_worstFiddler_1 15 rfl rfl)
theorem dX7_worstFiddler_40 : decode cX7_worstFiddler 40 = .ok (.if_icmp .le 16, 3) := dk_164 0 16 (dk_at dksX7_worstFiddler_1 16 rfl rfl)
theorem dX7_worstFiddler_43 : decode cX7_worstFiddler 43 = .ok (.iload 4, 2) := dk_21 4 (dk_at dksX7_worstFiddler_1 19 rfl rfl)
theorem dX7_worstFiddler_45 : decode cX7_worstFiddler 45 = .ok (.istore_n 2, 1) := dk_61 (dk_at dksX7_worstFiddler_1 21 rfl rfl)
theorem dX7_worstFiddler_46 : decode cX7_worstFiddler 46 = .ok (.aload_n 0, 1) := dk_42 (dk_at dksX7_worstFiddler_1 22 rfl rfl)
theorem dX7_worstFiddler_47 : decode cX7_worstFiddler 47 = .ok (.getfield 7, 3) := dk_180 0 7 (dk_at dksX7_worstFiddler_2 0 rfl rfl)
theorem dX7_worstFiddler_50 : decode cX7_worstFiddler 50 = .ok (.bipush 20, 2) := dk_16 20 (dk_at dksX7_worstFiddler_2 3 rfl rfl)
theorem dX7_worstFiddler_52 : decode cX7_worstFiddler 52 = .ok (.iload_n 3, 1) := dk_29 (dk_at dksX7_worstFiddler_2 5 rfl rfl)
theorem dX7_worstFiddler_53 : decode cX7_worstFiddler 53 = .ok (.iadd, 1) := dk_96 (dk_at dksX7_worstFiddler_2 6 rfl rfl)
theorem dX7_worstFiddler_54 : decode cX7_worstFiddler 54 = .ok (.iaload, 1) := dk_46 (dk_at dksX7_worstFiddler_2 7 rfl rfl)
theorem dX7_worstFiddler_55 : decode cX7_worstFiddler 55 = .ok (.istore_n 1, 1) := dk_60 (dk_at dksX7_worstFiddler_2 8 rfl rfl)
theorem dX7_worstFiddler_56 : decode cX7_worstFiddler 56 = .ok (.iinc 3 1, 3) := dk_132 3 1 (dk_at dksX7_worstFiddler_2 9 rfl rfl)
theorem dX7_worstFiddler_59 : decode cX7_worstFiddler 59 = .ok (.goto (-48), 3) := dk_167 255 208 (dk_at dksX7_worstFiddler_2 12 rfl rfl)
theorem dX7_worstFiddler_62 : decode cX7_worstFiddler 62 = .ok (.iload_n 1, 1) := dk_27 (dk_at dksX7_worstFiddler_2 15 rfl rfl)
theorem dX7_worstFiddler_63 : decode cX7_worstFiddler 63 = .ok (.ireturn, 1) := dk_172 (dk_at dksX7_worstFiddler_2 16 rfl rfl)
abbrev iX7_worstFiddler : xM := (yX7_worstFiddler, cX7_worstFiddler, 5, (some .int), [])
theorem mX7_worstFiddler : xOkM iX7_worstFiddler := ⟨by decide +kernel, by decide, q4086, q175⟩
abbrev cX7_farthest : ByteArray := prog_15_method_116_code
def yX7_farthest : MethodName := ⟨RX7, "farthest", "(I)I"⟩
def dkwX7_farthest_1 : List UInt8 := [96, 182, 0, 75, 184, 0, 93, 184, 0, 82, 61, 132, 3, 1, 167, 255, 222, 28, 172]
abbrev dktX7_farthest_1 : List UInt8 := dkwX7_farthest_1 ++ []
def dkwX7_farthest_0 : List UInt8 := [2, 61, 3, 62, 29, 7, 162, 0, 35, 42, 27, 29, 182, 0, 85, 154, 0, 20, 28, 42, 27, 16, 9, 29]
abbrev dktX7_farthest_0 : List UInt8 := dkwX7_farthest_0 ++ dktX7_farthest_1
theorem dksX7_farthest_0 : cX7_farthest.data.toList.drop 0 = dktX7_farthest_0 := by decide +kernel
theorem dksX7_farthest_1 : cX7_farthest.data.toList.drop 24 = dktX7_farthest_1 := dk_seg dksX7_farthest_0 24 rfl rfl
theorem dX7_farthest_0 : decode cX7_farthest 0 = .ok (.iconst (-1), 1) := dk_2 (dk_at dksX7_farthest_0 0 rfl rfl)
theorem dX7_farthest_1 : decode cX7_farthest 1 = .ok (.istore_n 2, 1) := dk_61 (dk_at dksX7_farthest_0 1 rfl rfl)
theorem dX7_farthest_2 : decode cX7_farthest 2 = .ok (.iconst 0, 1) := dk_3 (dk_at dksX7_farthest_0 2 rfl rfl)
theorem dX7_farthest_3 : decode cX7_farthest 3 = .ok (.istore_n 3, 1) := dk_62 (dk_at dksX7_farthest_0 3 rfl rfl)
theorem dX7_farthest_4 : decode cX7_farthest 4 = .ok (.iload_n 3, 1) := dk_29 (dk_at dksX7_farthest_0 4 rfl rfl)
theorem dX7_farthest_5 : decode cX7_farthest 5 = .ok (.iconst 4, 1) := dk_7 (dk_at dksX7_farthest_0 5 rfl rfl)
theorem dX7_farthest_6 : decode cX7_farthest 6 = .ok (.if_icmp .ge 35, 3) := dk_162 0 35 (dk_at dksX7_farthest_0 6 rfl rfl)
theorem dX7_farthest_9 : decode cX7_farthest 9 = .ok (.aload_n 0, 1) := dk_42 (dk_at dksX7_farthest_0 9 rfl rfl)
theorem dX7_farthest_10 : decode cX7_farthest 10 = .ok (.iload_n 1, 1) := dk_27 (dk_at dksX7_farthest_0 10 rfl rfl)
theorem dX7_farthest_11 : decode cX7_farthest 11 = .ok (.iload_n 3, 1) := dk_29 (dk_at dksX7_farthest_0 11 rfl rfl)
theorem dX7_farthest_12 : decode cX7_farthest 12 = .ok (.invokevirtual 85, 3) := dk_182 0 85 (dk_at dksX7_farthest_0 12 rfl rfl)
theorem dX7_farthest_15 : decode cX7_farthest 15 = .ok (.ifCond .ne 20, 3) := dk_154 0 20 (dk_at dksX7_farthest_0 15 rfl rfl)
theorem dX7_farthest_18 : decode cX7_farthest 18 = .ok (.iload_n 2, 1) := dk_28 (dk_at dksX7_farthest_0 18 rfl rfl)
theorem dX7_farthest_19 : decode cX7_farthest 19 = .ok (.aload_n 0, 1) := dk_42 (dk_at dksX7_farthest_0 19 rfl rfl)
theorem dX7_farthest_20 : decode cX7_farthest 20 = .ok (.iload_n 1, 1) := dk_27 (dk_at dksX7_farthest_0 20 rfl rfl)
theorem dX7_farthest_21 : decode cX7_farthest 21 = .ok (.bipush 9, 2) := dk_16 9 (dk_at dksX7_farthest_0 21 rfl rfl)
theorem dX7_farthest_23 : decode cX7_farthest 23 = .ok (.iload_n 3, 1) := dk_29 (dk_at dksX7_farthest_0 23 rfl rfl)
theorem dX7_farthest_24 : decode cX7_farthest 24 = .ok (.iadd, 1) := dk_96 (dk_at dksX7_farthest_1 0 rfl rfl)
theorem dX7_farthest_25 : decode cX7_farthest 25 = .ok (.invokevirtual 75, 3) := dk_182 0 75 (dk_at dksX7_farthest_1 1 rfl rfl)
theorem dX7_farthest_28 : decode cX7_farthest 28 = .ok (.invokestatic 93, 3) := dk_184 0 93 (dk_at dksX7_farthest_1 4 rfl rfl)
theorem dX7_farthest_31 : decode cX7_farthest 31 = .ok (.invokestatic 82, 3) := dk_184 0 82 (dk_at dksX7_farthest_1 7 rfl rfl)
theorem dX7_farthest_34 : decode cX7_farthest 34 = .ok (.istore_n 2, 1) := dk_61 (dk_at dksX7_farthest_1 10 rfl rfl)
theorem dX7_farthest_35 : decode cX7_farthest 35 = .ok (.iinc 3 1, 3) := dk_132 3 1 (dk_at dksX7_farthest_1 11 rfl rfl)
theorem dX7_farthest_38 : decode cX7_farthest 38 = .ok (.goto (-34), 3) := dk_167 255 222 (dk_at dksX7_farthest_1 14 rfl rfl)
theorem dX7_farthest_41 : decode cX7_farthest 41 = .ok (.iload_n 2, 1) := dk_28 (dk_at dksX7_farthest_1 17 rfl rfl)
theorem dX7_farthest_42 : decode cX7_farthest 42 = .ok (.ireturn, 1) := dk_172 (dk_at dksX7_farthest_1 18 rfl rfl)
abbrev iX7_farthest : xM := (yX7_farthest, cX7_farthest, 4, (some .int), [])
theorem mX7_farthest : xOkM iX7_farthest := ⟨by decide +kernel, by decide, q4090, q175⟩
abbrev cX7_looserPegs : ByteArray := prog_15_method_118_code
def yX7_looserPegs : MethodName := ⟨RX7, "looserPegs", "(I)I"⟩
def dkwX7_looserPegs_2 : List UInt8 := [96, 61, 132, 3, 1, 167, 255, 212, 28, 172]
abbrev dktX7_looserPegs_2 : List UInt8 := dkwX7_looserPegs_2 ++ []
def dkwX7_looserPegs_1 : List UInt8 := [29, 7, 108, 16, 17, 29, 7, 112, 96, 182, 0, 75, 27, 162, 0, 7, 4, 167, 0, 4, 3, 184, 0, 110]
abbrev dktX7_looserPegs_1 : List UInt8 := dkwX7_looserPegs_1 ++ dktX7_looserPegs_2
def dkwX7_looserPegs_0 : List UInt8 := [42, 3, 181, 0, 72, 3, 61, 3, 62, 29, 7, 42, 180, 0, 7, 16, 13, 46, 104, 162, 0, 37, 28, 42]
abbrev dktX7_looserPegs_0 : List UInt8 := dkwX7_looserPegs_0 ++ dktX7_looserPegs_1
theorem dksX7_looserPegs_0 : cX7_looserPegs.data.toList.drop 0 = dktX7_looserPegs_0 := by decide +kernel
theorem dksX7_looserPegs_1 : cX7_looserPegs.data.toList.drop 24 = dktX7_looserPegs_1 := dk_seg dksX7_looserPegs_0 24 rfl rfl
theorem dksX7_looserPegs_2 : cX7_looserPegs.data.toList.drop 48 = dktX7_looserPegs_2 := dk_seg dksX7_looserPegs_1 24 rfl rfl
theorem dX7_looserPegs_0 : decode cX7_looserPegs 0 = .ok (.aload_n 0, 1) := dk_42 (dk_at dksX7_looserPegs_0 0 rfl rfl)
theorem dX7_looserPegs_1 : decode cX7_looserPegs 1 = .ok (.iconst 0, 1) := dk_3 (dk_at dksX7_looserPegs_0 1 rfl rfl)
theorem dX7_looserPegs_2 : decode cX7_looserPegs 2 = .ok (.putfield 72, 3) := dk_181 0 72 (dk_at dksX7_looserPegs_0 2 rfl rfl)
theorem dX7_looserPegs_5 : decode cX7_looserPegs 5 = .ok (.iconst 0, 1) := dk_3 (dk_at dksX7_looserPegs_0 5 rfl rfl)
theorem dX7_looserPegs_6 : decode cX7_looserPegs 6 = .ok (.istore_n 2, 1) := dk_61 (dk_at dksX7_looserPegs_0 6 rfl rfl)
theorem dX7_looserPegs_7 : decode cX7_looserPegs 7 = .ok (.iconst 0, 1) := dk_3 (dk_at dksX7_looserPegs_0 7 rfl rfl)
theorem dX7_looserPegs_8 : decode cX7_looserPegs 8 = .ok (.istore_n 3, 1) := dk_62 (dk_at dksX7_looserPegs_0 8 rfl rfl)
theorem dX7_looserPegs_9 : decode cX7_looserPegs 9 = .ok (.iload_n 3, 1) := dk_29 (dk_at dksX7_looserPegs_0 9 rfl rfl)
theorem dX7_looserPegs_10 : decode cX7_looserPegs 10 = .ok (.iconst 4, 1) := dk_7 (dk_at dksX7_looserPegs_0 10 rfl rfl)
theorem dX7_looserPegs_11 : decode cX7_looserPegs 11 = .ok (.aload_n 0, 1) := dk_42 (dk_at dksX7_looserPegs_0 11 rfl rfl)
theorem dX7_looserPegs_12 : decode cX7_looserPegs 12 = .ok (.getfield 7, 3) := dk_180 0 7 (dk_at dksX7_looserPegs_0 12 rfl rfl)
theorem dX7_looserPegs_15 : decode cX7_looserPegs 15 = .ok (.bipush 13, 2) := dk_16 13 (dk_at dksX7_looserPegs_0 15 rfl rfl)
theorem dX7_looserPegs_17 : decode cX7_looserPegs 17 = .ok (.iaload, 1) := dk_46 (dk_at dksX7_looserPegs_0 17 rfl rfl)
theorem dX7_looserPegs_18 : decode cX7_looserPegs 18 = .ok (.imul, 1) := dk_104 (dk_at dksX7_looserPegs_0 18 rfl rfl)
theorem dX7_looserPegs_19 : decode cX7_looserPegs 19 = .ok (.if_icmp .ge 37, 3) := dk_162 0 37 (dk_at dksX7_looserPegs_0 19 rfl rfl)
theorem dX7_looserPegs_22 : decode cX7_looserPegs 22 = .ok (.iload_n 2, 1) := dk_28 (dk_at dksX7_looserPegs_0 22 rfl rfl)
theorem dX7_looserPegs_23 : decode cX7_looserPegs 23 = .ok (.aload_n 0, 1) := dk_42 (dk_at dksX7_looserPegs_0 23 rfl rfl)
theorem dX7_looserPegs_24 : decode cX7_looserPegs 24 = .ok (.iload_n 3, 1) := dk_29 (dk_at dksX7_looserPegs_1 0 rfl rfl)
theorem dX7_looserPegs_25 : decode cX7_looserPegs 25 = .ok (.iconst 4, 1) := dk_7 (dk_at dksX7_looserPegs_1 1 rfl rfl)
theorem dX7_looserPegs_26 : decode cX7_looserPegs 26 = .ok (.idiv, 1) := dk_108 (dk_at dksX7_looserPegs_1 2 rfl rfl)
theorem dX7_looserPegs_27 : decode cX7_looserPegs 27 = .ok (.bipush 17, 2) := dk_16 17 (dk_at dksX7_looserPegs_1 3 rfl rfl)
theorem dX7_looserPegs_29 : decode cX7_looserPegs 29 = .ok (.iload_n 3, 1) := dk_29 (dk_at dksX7_looserPegs_1 5 rfl rfl)
theorem dX7_looserPegs_30 : decode cX7_looserPegs 30 = .ok (.iconst 4, 1) := dk_7 (dk_at dksX7_looserPegs_1 6 rfl rfl)
theorem dX7_looserPegs_31 : decode cX7_looserPegs 31 = .ok (.irem, 1) := dk_112 (dk_at dksX7_looserPegs_1 7 rfl rfl)
theorem dX7_looserPegs_32 : decode cX7_looserPegs 32 = .ok (.iadd, 1) := dk_96 (dk_at dksX7_looserPegs_1 8 rfl rfl)
theorem dX7_looserPegs_33 : decode cX7_looserPegs 33 = .ok (.invokevirtual 75, 3) := dk_182 0 75 (dk_at dksX7_looserPegs_1 9 rfl rfl)
theorem dX7_looserPegs_36 : decode cX7_looserPegs 36 = .ok (.iload_n 1, 1) := dk_27 (dk_at dksX7_looserPegs_1 12 rfl rfl)
theorem dX7_looserPegs_37 : decode cX7_looserPegs 37 = .ok (.if_icmp .ge 7, 3) := dk_162 0 7 (dk_at dksX7_looserPegs_1 13 rfl rfl)
theorem dX7_looserPegs_40 : decode cX7_looserPegs 40 = .ok (.iconst 1, 1) := dk_4 (dk_at dksX7_looserPegs_1 16 rfl rfl)
theorem dX7_looserPegs_41 : decode cX7_looserPegs 41 = .ok (.goto 4, 3) := dk_167 0 4 (dk_at dksX7_looserPegs_1 17 rfl rfl)
theorem dX7_looserPegs_44 : decode cX7_looserPegs 44 = .ok (.iconst 0, 1) := dk_3 (dk_at dksX7_looserPegs_1 20 rfl rfl)
theorem dX7_looserPegs_45 : decode cX7_looserPegs 45 = .ok (.invokestatic 110, 3) := dk_184 0 110 (dk_at dksX7_looserPegs_1 21 rfl rfl)
theorem dX7_looserPegs_48 : decode cX7_looserPegs 48 = .ok (.iadd, 1) := dk_96 (dk_at dksX7_looserPegs_2 0 rfl rfl)
theorem dX7_looserPegs_49 : decode cX7_looserPegs 49 = .ok (.istore_n 2, 1) := dk_61 (dk_at dksX7_looserPegs_2 1 rfl rfl)
theorem dX7_looserPegs_50 : decode cX7_looserPegs 50 = .ok (.iinc 3 1, 3) := dk_132 3 1 (dk_at dksX7_looserPegs_2 2 rfl rfl)
theorem dX7_looserPegs_53 : decode cX7_looserPegs 53 = .ok (.goto (-44), 3) := dk_167 255 212 (dk_at dksX7_looserPegs_2 5 rfl rfl)
theorem dX7_looserPegs_56 : decode cX7_looserPegs 56 = .ok (.iload_n 2, 1) := dk_28 (dk_at dksX7_looserPegs_2 8 rfl rfl)
theorem dX7_looserPegs_57 : decode cX7_looserPegs 57 = .ok (.ireturn, 1) := dk_172 (dk_at dksX7_looserPegs_2 9 rfl rfl)
abbrev iX7_looserPegs : xM := (yX7_looserPegs, cX7_looserPegs, 4, (some .int), [])
theorem mX7_looserPegs : xOkM iX7_looserPegs := ⟨by decide +kernel, by decide, q4094, q175⟩
abbrev cX7_isInTune : ByteArray := prog_15_method_119_code
def yX7_isInTune : MethodName := ⟨RX7, "isInTune", "(I)Z"⟩
def dkwX7_isInTune_1 : List UInt8 := [167, 0, 4, 3, 172]
abbrev dktX7_isInTune_1 : List UInt8 := dkwX7_isInTune_1 ++ []
def dkwX7_isInTune_0 : List UInt8 := [42, 3, 181, 0, 72, 42, 27, 182, 1, 127, 154, 0, 17, 42, 27, 5, 182, 0, 75, 4, 160, 0, 7, 4]
abbrev dktX7_isInTune_0 : List UInt8 := dkwX7_isInTune_0 ++ dktX7_isInTune_1
theorem dksX7_isInTune_0 : cX7_isInTune.data.toList.drop 0 = dktX7_isInTune_0 := by decide +kernel
theorem dksX7_isInTune_1 : cX7_isInTune.data.toList.drop 24 = dktX7_isInTune_1 := dk_seg dksX7_isInTune_0 24 rfl rfl
theorem dX7_isInTune_0 : decode cX7_isInTune 0 = .ok (.aload_n 0, 1) := dk_42 (dk_at dksX7_isInTune_0 0 rfl rfl)
theorem dX7_isInTune_1 : decode cX7_isInTune 1 = .ok (.iconst 0, 1) := dk_3 (dk_at dksX7_isInTune_0 1 rfl rfl)
theorem dX7_isInTune_2 : decode cX7_isInTune 2 = .ok (.putfield 72, 3) := dk_181 0 72 (dk_at dksX7_isInTune_0 2 rfl rfl)
theorem dX7_isInTune_5 : decode cX7_isInTune 5 = .ok (.aload_n 0, 1) := dk_42 (dk_at dksX7_isInTune_0 5 rfl rfl)
theorem dX7_isInTune_6 : decode cX7_isInTune 6 = .ok (.iload_n 1, 1) := dk_27 (dk_at dksX7_isInTune_0 6 rfl rfl)
theorem dX7_isInTune_7 : decode cX7_isInTune 7 = .ok (.invokevirtual 383, 3) := dk_182 1 127 (dk_at dksX7_isInTune_0 7 rfl rfl)
theorem dX7_isInTune_10 : decode cX7_isInTune 10 = .ok (.ifCond .ne 17, 3) := dk_154 0 17 (dk_at dksX7_isInTune_0 10 rfl rfl)
theorem dX7_isInTune_13 : decode cX7_isInTune 13 = .ok (.aload_n 0, 1) := dk_42 (dk_at dksX7_isInTune_0 13 rfl rfl)
theorem dX7_isInTune_14 : decode cX7_isInTune 14 = .ok (.iload_n 1, 1) := dk_27 (dk_at dksX7_isInTune_0 14 rfl rfl)
theorem dX7_isInTune_15 : decode cX7_isInTune 15 = .ok (.iconst 2, 1) := dk_5 (dk_at dksX7_isInTune_0 15 rfl rfl)
theorem dX7_isInTune_16 : decode cX7_isInTune 16 = .ok (.invokevirtual 75, 3) := dk_182 0 75 (dk_at dksX7_isInTune_0 16 rfl rfl)
theorem dX7_isInTune_19 : decode cX7_isInTune 19 = .ok (.iconst 1, 1) := dk_4 (dk_at dksX7_isInTune_0 19 rfl rfl)
theorem dX7_isInTune_20 : decode cX7_isInTune 20 = .ok (.if_icmp .ne 7, 3) := dk_160 0 7 (dk_at dksX7_isInTune_0 20 rfl rfl)
theorem dX7_isInTune_23 : decode cX7_isInTune 23 = .ok (.iconst 1, 1) := dk_4 (dk_at dksX7_isInTune_0 23 rfl rfl)
theorem dX7_isInTune_24 : decode cX7_isInTune 24 = .ok (.goto 4, 3) := dk_167 0 4 (dk_at dksX7_isInTune_1 0 rfl rfl)
theorem dX7_isInTune_27 : decode cX7_isInTune 27 = .ok (.iconst 0, 1) := dk_3 (dk_at dksX7_isInTune_1 3 rfl rfl)
theorem dX7_isInTune_28 : decode cX7_isInTune 28 = .ok (.ireturn, 1) := dk_172 (dk_at dksX7_isInTune_1 4 rfl rfl)
abbrev iX7_isInTune : xM := (yX7_isInTune, cX7_isInTune, 2, (some .boolean), [])
theorem mX7_isInTune : xOkM iX7_isInTune := ⟨by decide +kernel, by decide, q4098, q175⟩
abbrev cX7_referenceOf : ByteArray := prog_15_method_120_code
def yX7_referenceOf : MethodName := ⟨RX7, "referenceOf", "(I)I"⟩
def dkwX7_referenceOf_0 : List UInt8 := [42, 3, 181, 0, 72, 42, 27, 182, 1, 127, 153, 0, 7, 3, 167, 0, 9, 42, 27, 6, 182, 0, 75, 172]
abbrev dktX7_referenceOf_0 : List UInt8 := dkwX7_referenceOf_0 ++ []
theorem dksX7_referenceOf_0 : cX7_referenceOf.data.toList.drop 0 = dktX7_referenceOf_0 := by decide +kernel
theorem dX7_referenceOf_0 : decode cX7_referenceOf 0 = .ok (.aload_n 0, 1) := dk_42 (dk_at dksX7_referenceOf_0 0 rfl rfl)
theorem dX7_referenceOf_1 : decode cX7_referenceOf 1 = .ok (.iconst 0, 1) := dk_3 (dk_at dksX7_referenceOf_0 1 rfl rfl)
theorem dX7_referenceOf_2 : decode cX7_referenceOf 2 = .ok (.putfield 72, 3) := dk_181 0 72 (dk_at dksX7_referenceOf_0 2 rfl rfl)
theorem dX7_referenceOf_5 : decode cX7_referenceOf 5 = .ok (.aload_n 0, 1) := dk_42 (dk_at dksX7_referenceOf_0 5 rfl rfl)
theorem dX7_referenceOf_6 : decode cX7_referenceOf 6 = .ok (.iload_n 1, 1) := dk_27 (dk_at dksX7_referenceOf_0 6 rfl rfl)
theorem dX7_referenceOf_7 : decode cX7_referenceOf 7 = .ok (.invokevirtual 383, 3) := dk_182 1 127 (dk_at dksX7_referenceOf_0 7 rfl rfl)
theorem dX7_referenceOf_10 : decode cX7_referenceOf 10 = .ok (.ifCond .eq 7, 3) := dk_153 0 7 (dk_at dksX7_referenceOf_0 10 rfl rfl)
theorem dX7_referenceOf_13 : decode cX7_referenceOf 13 = .ok (.iconst 0, 1) := dk_3 (dk_at dksX7_referenceOf_0 13 rfl rfl)
theorem dX7_referenceOf_14 : decode cX7_referenceOf 14 = .ok (.goto 9, 3) := dk_167 0 9 (dk_at dksX7_referenceOf_0 14 rfl rfl)
theorem dX7_referenceOf_17 : decode cX7_referenceOf 17 = .ok (.aload_n 0, 1) := dk_42 (dk_at dksX7_referenceOf_0 17 rfl rfl)
theorem dX7_referenceOf_18 : decode cX7_referenceOf 18 = .ok (.iload_n 1, 1) := dk_27 (dk_at dksX7_referenceOf_0 18 rfl rfl)
theorem dX7_referenceOf_19 : decode cX7_referenceOf 19 = .ok (.iconst 3, 1) := dk_6 (dk_at dksX7_referenceOf_0 19 rfl rfl)
theorem dX7_referenceOf_20 : decode cX7_referenceOf 20 = .ok (.invokevirtual 75, 3) := dk_182 0 75 (dk_at dksX7_referenceOf_0 20 rfl rfl)
theorem dX7_referenceOf_23 : decode cX7_referenceOf 23 = .ok (.ireturn, 1) := dk_172 (dk_at dksX7_referenceOf_0 23 rfl rfl)
abbrev iX7_referenceOf : xM := (yX7_referenceOf, cX7_referenceOf, 2, (some .int), [])
theorem mX7_referenceOf : xOkM iX7_referenceOf := ⟨by decide +kernel, by decide, q4102, q175⟩
abbrev cX7_chainLength : ByteArray := prog_15_method_121_code
def yX7_chainLength : MethodName := ⟨RX7, "chainLength", "(I)I"⟩
def dkwX7_chainLength_0 : List UInt8 := [42, 3, 181, 0, 72, 42, 27, 182, 1, 127, 153, 0, 7, 3, 167, 0, 9, 42, 27, 7, 182, 0, 75, 172]
abbrev dktX7_chainLength_0 : List UInt8 := dkwX7_chainLength_0 ++ []
theorem dksX7_chainLength_0 : cX7_chainLength.data.toList.drop 0 = dktX7_chainLength_0 := by decide +kernel
theorem dX7_chainLength_0 : decode cX7_chainLength 0 = .ok (.aload_n 0, 1) := dk_42 (dk_at dksX7_chainLength_0 0 rfl rfl)
theorem dX7_chainLength_1 : decode cX7_chainLength 1 = .ok (.iconst 0, 1) := dk_3 (dk_at dksX7_chainLength_0 1 rfl rfl)
theorem dX7_chainLength_2 : decode cX7_chainLength 2 = .ok (.putfield 72, 3) := dk_181 0 72 (dk_at dksX7_chainLength_0 2 rfl rfl)
theorem dX7_chainLength_5 : decode cX7_chainLength 5 = .ok (.aload_n 0, 1) := dk_42 (dk_at dksX7_chainLength_0 5 rfl rfl)
theorem dX7_chainLength_6 : decode cX7_chainLength 6 = .ok (.iload_n 1, 1) := dk_27 (dk_at dksX7_chainLength_0 6 rfl rfl)
theorem dX7_chainLength_7 : decode cX7_chainLength 7 = .ok (.invokevirtual 383, 3) := dk_182 1 127 (dk_at dksX7_chainLength_0 7 rfl rfl)
theorem dX7_chainLength_10 : decode cX7_chainLength 10 = .ok (.ifCond .eq 7, 3) := dk_153 0 7 (dk_at dksX7_chainLength_0 10 rfl rfl)
theorem dX7_chainLength_13 : decode cX7_chainLength 13 = .ok (.iconst 0, 1) := dk_3 (dk_at dksX7_chainLength_0 13 rfl rfl)
theorem dX7_chainLength_14 : decode cX7_chainLength 14 = .ok (.goto 9, 3) := dk_167 0 9 (dk_at dksX7_chainLength_0 14 rfl rfl)
theorem dX7_chainLength_17 : decode cX7_chainLength 17 = .ok (.aload_n 0, 1) := dk_42 (dk_at dksX7_chainLength_0 17 rfl rfl)
theorem dX7_chainLength_18 : decode cX7_chainLength 18 = .ok (.iload_n 1, 1) := dk_27 (dk_at dksX7_chainLength_0 18 rfl rfl)
theorem dX7_chainLength_19 : decode cX7_chainLength 19 = .ok (.iconst 4, 1) := dk_7 (dk_at dksX7_chainLength_0 19 rfl rfl)
theorem dX7_chainLength_20 : decode cX7_chainLength 20 = .ok (.invokevirtual 75, 3) := dk_182 0 75 (dk_at dksX7_chainLength_0 20 rfl rfl)
theorem dX7_chainLength_23 : decode cX7_chainLength 23 = .ok (.ireturn, 1) := dk_172 (dk_at dksX7_chainLength_0 23 rfl rfl)
abbrev iX7_chainLength : xM := (yX7_chainLength, cX7_chainLength, 2, (some .int), [])
theorem mX7_chainLength : xOkM iX7_chainLength := ⟨by decide +kernel, by decide, q4106, q175⟩
abbrev cX7_tunedDeviation : ByteArray := prog_15_method_122_code
def yX7_tunedDeviation : MethodName := ⟨RX7, "tunedDeviation", "(II)I"⟩
def dkwX7_tunedDeviation_2 : List UInt8 := [172]
abbrev dktX7_tunedDeviation_2 : List UInt8 := dkwX7_tunedDeviation_2 ++ []
def dkwX7_tunedDeviation_1 : List UInt8 := [4, 167, 0, 4, 3, 5, 182, 0, 136, 153, 0, 7, 3, 167, 0, 11, 42, 27, 8, 28, 96, 182, 0, 75]
abbrev dktX7_tunedDeviation_1 : List UInt8 := dkwX7_tunedDeviation_1 ++ dktX7_tunedDeviation_2
def dkwX7_tunedDeviation_0 : List UInt8 := [42, 3, 181, 0, 72, 42, 27, 28, 182, 1, 132, 154, 0, 25, 42, 42, 27, 5, 182, 0, 75, 154, 0, 7]
abbrev dktX7_tunedDeviation_0 : List UInt8 := dkwX7_tunedDeviation_0 ++ dktX7_tunedDeviation_1
theorem dksX7_tunedDeviation_0 : cX7_tunedDeviation.data.toList.drop 0 = dktX7_tunedDeviation_0 := by decide +kernel
theorem dksX7_tunedDeviation_1 : cX7_tunedDeviation.data.toList.drop 24 = dktX7_tunedDeviation_1 := dk_seg dksX7_tunedDeviation_0 24 rfl rfl
theorem dksX7_tunedDeviation_2 : cX7_tunedDeviation.data.toList.drop 48 = dktX7_tunedDeviation_2 := dk_seg dksX7_tunedDeviation_1 24 rfl rfl
theorem dX7_tunedDeviation_0 : decode cX7_tunedDeviation 0 = .ok (.aload_n 0, 1) := dk_42 (dk_at dksX7_tunedDeviation_0 0 rfl rfl)
theorem dX7_tunedDeviation_1 : decode cX7_tunedDeviation 1 = .ok (.iconst 0, 1) := dk_3 (dk_at dksX7_tunedDeviation_0 1 rfl rfl)
theorem dX7_tunedDeviation_2 : decode cX7_tunedDeviation 2 = .ok (.putfield 72, 3) := dk_181 0 72 (dk_at dksX7_tunedDeviation_0 2 rfl rfl)
theorem dX7_tunedDeviation_5 : decode cX7_tunedDeviation 5 = .ok (.aload_n 0, 1) := dk_42 (dk_at dksX7_tunedDeviation_0 5 rfl rfl)
theorem dX7_tunedDeviation_6 : decode cX7_tunedDeviation 6 = .ok (.iload_n 1, 1) := dk_27 (dk_at dksX7_tunedDeviation_0 6 rfl rfl)
theorem dX7_tunedDeviation_7 : decode cX7_tunedDeviation 7 = .ok (.iload_n 2, 1) := dk_28 (dk_at dksX7_tunedDeviation_0 7 rfl rfl)
theorem dX7_tunedDeviation_8 : decode cX7_tunedDeviation 8 = .ok (.invokevirtual 388, 3) := dk_182 1 132 (dk_at dksX7_tunedDeviation_0 8 rfl rfl)
theorem dX7_tunedDeviation_11 : decode cX7_tunedDeviation 11 = .ok (.ifCond .ne 25, 3) := dk_154 0 25 (dk_at dksX7_tunedDeviation_0 11 rfl rfl)
theorem dX7_tunedDeviation_14 : decode cX7_tunedDeviation 14 = .ok (.aload_n 0, 1) := dk_42 (dk_at dksX7_tunedDeviation_0 14 rfl rfl)
theorem dX7_tunedDeviation_15 : decode cX7_tunedDeviation 15 = .ok (.aload_n 0, 1) := dk_42 (dk_at dksX7_tunedDeviation_0 15 rfl rfl)
theorem dX7_tunedDeviation_16 : decode cX7_tunedDeviation 16 = .ok (.iload_n 1, 1) := dk_27 (dk_at dksX7_tunedDeviation_0 16 rfl rfl)
theorem dX7_tunedDeviation_17 : decode cX7_tunedDeviation 17 = .ok (.iconst 2, 1) := dk_5 (dk_at dksX7_tunedDeviation_0 17 rfl rfl)
theorem dX7_tunedDeviation_18 : decode cX7_tunedDeviation 18 = .ok (.invokevirtual 75, 3) := dk_182 0 75 (dk_at dksX7_tunedDeviation_0 18 rfl rfl)
theorem dX7_tunedDeviation_21 : decode cX7_tunedDeviation 21 = .ok (.ifCond .ne 7, 3) := dk_154 0 7 (dk_at dksX7_tunedDeviation_0 21 rfl rfl)
theorem dX7_tunedDeviation_24 : decode cX7_tunedDeviation 24 = .ok (.iconst 1, 1) := dk_4 (dk_at dksX7_tunedDeviation_1 0 rfl rfl)
theorem dX7_tunedDeviation_25 : decode cX7_tunedDeviation 25 = .ok (.goto 4, 3) := dk_167 0 4 (dk_at dksX7_tunedDeviation_1 1 rfl rfl)
theorem dX7_tunedDeviation_28 : decode cX7_tunedDeviation 28 = .ok (.iconst 0, 1) := dk_3 (dk_at dksX7_tunedDeviation_1 4 rfl rfl)
theorem dX7_tunedDeviation_29 : decode cX7_tunedDeviation 29 = .ok (.iconst 2, 1) := dk_5 (dk_at dksX7_tunedDeviation_1 5 rfl rfl)
theorem dX7_tunedDeviation_30 : decode cX7_tunedDeviation 30 = .ok (.invokevirtual 136, 3) := dk_182 0 136 (dk_at dksX7_tunedDeviation_1 6 rfl rfl)
theorem dX7_tunedDeviation_33 : decode cX7_tunedDeviation 33 = .ok (.ifCond .eq 7, 3) := dk_153 0 7 (dk_at dksX7_tunedDeviation_1 9 rfl rfl)
theorem dX7_tunedDeviation_36 : decode cX7_tunedDeviation 36 = .ok (.iconst 0, 1) := dk_3 (dk_at dksX7_tunedDeviation_1 12 rfl rfl)
theorem dX7_tunedDeviation_37 : decode cX7_tunedDeviation 37 = .ok (.goto 11, 3) := dk_167 0 11 (dk_at dksX7_tunedDeviation_1 13 rfl rfl)
theorem dX7_tunedDeviation_40 : decode cX7_tunedDeviation 40 = .ok (.aload_n 0, 1) := dk_42 (dk_at dksX7_tunedDeviation_1 16 rfl rfl)
theorem dX7_tunedDeviation_41 : decode cX7_tunedDeviation 41 = .ok (.iload_n 1, 1) := dk_27 (dk_at dksX7_tunedDeviation_1 17 rfl rfl)
theorem dX7_tunedDeviation_42 : decode cX7_tunedDeviation 42 = .ok (.iconst 5, 1) := dk_8 (dk_at dksX7_tunedDeviation_1 18 rfl rfl)
theorem dX7_tunedDeviation_43 : decode cX7_tunedDeviation 43 = .ok (.iload_n 2, 1) := dk_28 (dk_at dksX7_tunedDeviation_1 19 rfl rfl)
theorem dX7_tunedDeviation_44 : decode cX7_tunedDeviation 44 = .ok (.iadd, 1) := dk_96 (dk_at dksX7_tunedDeviation_1 20 rfl rfl)
theorem dX7_tunedDeviation_45 : decode cX7_tunedDeviation 45 = .ok (.invokevirtual 75, 3) := dk_182 0 75 (dk_at dksX7_tunedDeviation_1 21 rfl rfl)
theorem dX7_tunedDeviation_48 : decode cX7_tunedDeviation 48 = .ok (.ireturn, 1) := dk_172 (dk_at dksX7_tunedDeviation_2 0 rfl rfl)
abbrev iX7_tunedDeviation : xM := (yX7_tunedDeviation, cX7_tunedDeviation, 3, (some .int), [])
theorem mX7_tunedDeviation : xOkM iX7_tunedDeviation := ⟨by decide +kernel, by decide, q4110, q175⟩
abbrev cX7_forgivenStrings : ByteArray := prog_15_method_123_code
def yX7_forgivenStrings : MethodName := ⟨RX7, "forgivenStrings", "()I"⟩
def dkwX7_forgivenStrings_0 : List UInt8 := [42, 16, 19, 182, 1, 144, 172]
abbrev dktX7_forgivenStrings_0 : List UInt8 := dkwX7_forgivenStrings_0 ++ []
theorem dksX7_forgivenStrings_0 : cX7_forgivenStrings.data.toList.drop 0 = dktX7_forgivenStrings_0 := by decide +kernel
theorem dX7_forgivenStrings_0 : decode cX7_forgivenStrings 0 = .ok (.aload_n 0, 1) := dk_42 (dk_at dksX7_forgivenStrings_0 0 rfl rfl)
theorem dX7_forgivenStrings_1 : decode cX7_forgivenStrings 1 = .ok (.bipush 19, 2) := dk_16 19 (dk_at dksX7_forgivenStrings_0 1 rfl rfl)
theorem dX7_forgivenStrings_3 : decode cX7_forgivenStrings 3 = .ok (.invokevirtual 400, 3) := dk_182 1 144 (dk_at dksX7_forgivenStrings_0 3 rfl rfl)
theorem dX7_forgivenStrings_6 : decode cX7_forgivenStrings 6 = .ok (.ireturn, 1) := dk_172 (dk_at dksX7_forgivenStrings_0 6 rfl rfl)
abbrev iX7_forgivenStrings : xM := (yX7_forgivenStrings, cX7_forgivenStrings, 1, (some .int), [])
theorem mX7_forgivenStrings : xOkM iX7_forgivenStrings := ⟨by decide +kernel, by decide, q4114, q175⟩
abbrev cX7_forgivenFiddler : ByteArray := prog_15_method_124_code
def yX7_forgivenFiddler : MethodName := ⟨RX7, "forgivenFiddler", "(I)I"⟩
def dkwX7_forgivenFiddler_1 : List UInt8 := [42, 180, 0, 7, 16, 30, 27, 96, 46, 7, 108, 167, 0, 4, 2, 172]
abbrev dktX7_forgivenFiddler_1 : List UInt8 := dkwX7_forgivenFiddler_1 ++ []
def dkwX7_forgivenFiddler_0 : List UInt8 := [42, 3, 181, 0, 72, 27, 133, 9, 42, 180, 0, 7, 16, 19, 46, 4, 100, 133, 184, 0, 144, 153, 0, 17]
abbrev dktX7_forgivenFiddler_0 : List UInt8 := dkwX7_forgivenFiddler_0 ++ dktX7_forgivenFiddler_1
theorem dksX7_forgivenFiddler_0 : cX7_forgivenFiddler.data.toList.drop 0 = dktX7_forgivenFiddler_0 := by decide +kernel
theorem dksX7_forgivenFiddler_1 : cX7_forgivenFiddler.data.toList.drop 24 = dktX7_forgivenFiddler_1 := dk_seg dksX7_forgivenFiddler_0 24 rfl rfl
theorem dX7_forgivenFiddler_0 : decode cX7_forgivenFiddler 0 = .ok (.aload_n 0, 1) := dk_42 (dk_at dksX7_forgivenFiddler_0 0 rfl rfl)
theorem dX7_forgivenFiddler_1 : decode cX7_forgivenFiddler 1 = .ok (.iconst 0, 1) := dk_3 (dk_at dksX7_forgivenFiddler_0 1 rfl rfl)
theorem dX7_forgivenFiddler_2 : decode cX7_forgivenFiddler 2 = .ok (.putfield 72, 3) := dk_181 0 72 (dk_at dksX7_forgivenFiddler_0 2 rfl rfl)
theorem dX7_forgivenFiddler_5 : decode cX7_forgivenFiddler 5 = .ok (.iload_n 1, 1) := dk_27 (dk_at dksX7_forgivenFiddler_0 5 rfl rfl)
theorem dX7_forgivenFiddler_6 : decode cX7_forgivenFiddler 6 = .ok (.i2l, 1) := dk_133 (dk_at dksX7_forgivenFiddler_0 6 rfl rfl)
theorem dX7_forgivenFiddler_7 : decode cX7_forgivenFiddler 7 = .ok (.lconst 0, 1) := dk_9 (dk_at dksX7_forgivenFiddler_0 7 rfl rfl)
theorem dX7_forgivenFiddler_8 : decode cX7_forgivenFiddler 8 = .ok (.aload_n 0, 1) := dk_42 (dk_at dksX7_forgivenFiddler_0 8 rfl rfl)
theorem dX7_forgivenFiddler_9 : decode cX7_forgivenFiddler 9 = .ok (.getfield 7, 3) := dk_180 0 7 (dk_at dksX7_forgivenFiddler_0 9 rfl rfl)
theorem dX7_forgivenFiddler_12 : decode cX7_forgivenFiddler 12 = .ok (.bipush 19, 2) := dk_16 19 (dk_at dksX7_forgivenFiddler_0 12 rfl rfl)
theorem dX7_forgivenFiddler_14 : decode cX7_forgivenFiddler 14 = .ok (.iaload, 1) := dk_46 (dk_at dksX7_forgivenFiddler_0 14 rfl rfl)
theorem dX7_forgivenFiddler_15 : decode cX7_forgivenFiddler 15 = .ok (.iconst 1, 1) := dk_4 (dk_at dksX7_forgivenFiddler_0 15 rfl rfl)
theorem dX7_forgivenFiddler_16 : decode cX7_forgivenFiddler 16 = .ok (.isub, 1) := dk_100 (dk_at dksX7_forgivenFiddler_0 16 rfl rfl)
theorem dX7_forgivenFiddler_17 : decode cX7_forgivenFiddler 17 = .ok (.i2l, 1) := dk_133 (dk_at dksX7_forgivenFiddler_0 17 rfl rfl)
theorem dX7_forgivenFiddler_18 : decode cX7_forgivenFiddler 18 = .ok (.invokestatic 144, 3) := dk_184 0 144 (dk_at dksX7_forgivenFiddler_0 18 rfl rfl)
theorem dX7_forgivenFiddler_21 : decode cX7_forgivenFiddler 21 = .ok (.ifCond .eq 17, 3) := dk_153 0 17 (dk_at dksX7_forgivenFiddler_0 21 rfl rfl)
theorem dX7_forgivenFiddler_24 : decode cX7_forgivenFiddler 24 = .ok (.aload_n 0, 1) := dk_42 (dk_at dksX7_forgivenFiddler_1 0 rfl rfl)
theorem dX7_forgivenFiddler_25 : decode cX7_forgivenFiddler 25 = .ok (.getfield 7, 3) := dk_180 0 7 (dk_at dksX7_forgivenFiddler_1 1 rfl rfl)
theorem dX7_forgivenFiddler_28 : decode cX7_forgivenFiddler 28 = .ok (.bipush 30, 2) := dk_16 30 (dk_at dksX7_forgivenFiddler_1 4 rfl rfl)
theorem dX7_forgivenFiddler_30 : decode cX7_forgivenFiddler 30 = .ok (.iload_n 1, 1) := dk_27 (dk_at dksX7_forgivenFiddler_1 6 rfl rfl)
theorem dX7_forgivenFiddler_31 : decode cX7_forgivenFiddler 31 = .ok (.iadd, 1) := dk_96 (dk_at dksX7_forgivenFiddler_1 7 rfl rfl)
theorem dX7_forgivenFiddler_32 : decode cX7_forgivenFiddler 32 = .ok (.iaload, 1) := dk_46 (dk_at dksX7_forgivenFiddler_1 8 rfl rfl)
theorem dX7_forgivenFiddler_33 : decode cX7_forgivenFiddler 33 = .ok (.iconst 4, 1) := dk_7 (dk_at dksX7_forgivenFiddler_1 9 rfl rfl)
theorem dX7_forgivenFiddler_34 : decode cX7_forgivenFiddler 34 = .ok (.idiv, 1) := dk_108 (dk_at dksX7_forgivenFiddler_1 10 rfl rfl)
theorem dX7_forgivenFiddler_35 : decode cX7_forgivenFiddler 35 = .ok (.goto 4, 3) := dk_167 0 4 (dk_at dksX7_forgivenFiddler_1 11 rfl rfl)
theorem dX7_forgivenFiddler_38 : decode cX7_forgivenFiddler 38 = .ok (.iconst (-1), 1) := dk_2 (dk_at dksX7_forgivenFiddler_1 14 rfl rfl)
theorem dX7_forgivenFiddler_39 : decode cX7_forgivenFiddler 39 = .ok (.ireturn, 1) := dk_172 (dk_at dksX7_forgivenFiddler_1 15 rfl rfl)
abbrev iX7_forgivenFiddler : xM := (yX7_forgivenFiddler, cX7_forgivenFiddler, 2, (some .int), [])
theorem mX7_forgivenFiddler : xOkM iX7_forgivenFiddler := ⟨by decide +kernel, by decide, q4118, q175⟩
abbrev cX7_forgivenString : ByteArray := prog_15_method_125_code
def yX7_forgivenString : MethodName := ⟨RX7, "forgivenString", "(I)I"⟩
def dkwX7_forgivenString_1 : List UInt8 := [42, 180, 0, 7, 16, 30, 27, 96, 46, 7, 112, 167, 0, 4, 2, 172]
abbrev dktX7_forgivenString_1 : List UInt8 := dkwX7_forgivenString_1 ++ []
def dkwX7_forgivenString_0 : List UInt8 := [42, 3, 181, 0, 72, 27, 133, 9, 42, 180, 0, 7, 16, 19, 46, 4, 100, 133, 184, 0, 144, 153, 0, 17]
abbrev dktX7_forgivenString_0 : List UInt8 := dkwX7_forgivenString_0 ++ dktX7_forgivenString_1
theorem dksX7_forgivenString_0 : cX7_forgivenString.data.toList.drop 0 = dktX7_forgivenString_0 := by decide +kernel
theorem dksX7_forgivenString_1 : cX7_forgivenString.data.toList.drop 24 = dktX7_forgivenString_1 := dk_seg dksX7_forgivenString_0 24 rfl rfl
theorem dX7_forgivenString_0 : decode cX7_forgivenString 0 = .ok (.aload_n 0, 1) := dk_42 (dk_at dksX7_forgivenString_0 0 rfl rfl)
theorem dX7_forgivenString_1 : decode cX7_forgivenString 1 = .ok (.iconst 0, 1) := dk_3 (dk_at dksX7_forgivenString_0 1 rfl rfl)
theorem dX7_forgivenString_2 : decode cX7_forgivenString 2 = .ok (.putfield 72, 3) := dk_181 0 72 (dk_at dksX7_forgivenString_0 2 rfl rfl)
theorem dX7_forgivenString_5 : decode cX7_forgivenString 5 = .ok (.iload_n 1, 1) := dk_27 (dk_at dksX7_forgivenString_0 5 rfl rfl)
theorem dX7_forgivenString_6 : decode cX7_forgivenString 6 = .ok (.i2l, 1) := dk_133 (dk_at dksX7_forgivenString_0 6 rfl rfl)
theorem dX7_forgivenString_7 : decode cX7_forgivenString 7 = .ok (.lconst 0, 1) := dk_9 (dk_at dksX7_forgivenString_0 7 rfl rfl)
theorem dX7_forgivenString_8 : decode cX7_forgivenString 8 = .ok (.aload_n 0, 1) := dk_42 (dk_at dksX7_forgivenString_0 8 rfl rfl)
theorem dX7_forgivenString_9 : decode cX7_forgivenString 9 = .ok (.getfield 7, 3) := dk_180 0 7 (dk_at dksX7_forgivenString_0 9 rfl rfl)
theorem dX7_forgivenString_12 : decode cX7_forgivenString 12 = .ok (.bipush 19, 2) := dk_16 19 (dk_at dksX7_forgivenString_0 12 rfl rfl)
theorem dX7_forgivenString_14 : decode cX7_forgivenString 14 = .ok (.iaload, 1) := dk_46 (dk_at dksX7_forgivenString_0 14 rfl rfl)
theorem dX7_forgivenString_15 : decode cX7_forgivenString 15 = .ok (.iconst 1, 1) := dk_4 (dk_at dksX7_forgivenString_0 15 rfl rfl)
theorem dX7_forgivenString_16 : decode cX7_forgivenString 16 = .ok (.isub, 1) := dk_100 (dk_at dksX7_forgivenString_0 16 rfl rfl)
theorem dX7_forgivenString_17 : decode cX7_forgivenString 17 = .ok (.i2l, 1) := dk_133 (dk_at dksX7_forgivenString_0 17 rfl rfl)
theorem dX7_forgivenString_18 : decode cX7_forgivenString 18 = .ok (.invokestatic 144, 3) := dk_184 0 144 (dk_at dksX7_forgivenString_0 18 rfl rfl)
theorem dX7_forgivenString_21 : decode cX7_forgivenString 21 = .ok (.ifCond .eq 17, 3) := dk_153 0 17 (dk_at dksX7_forgivenString_0 21 rfl rfl)
theorem dX7_forgivenString_24 : decode cX7_forgivenString 24 = .ok (.aload_n 0, 1) := dk_42 (dk_at dksX7_forgivenString_1 0 rfl rfl)
theorem dX7_forgivenString_25 : decode cX7_forgivenString 25 = .ok (.getfield 7, 3) := dk_180 0 7 (dk_at dksX7_forgivenString_1 1 rfl rfl)
theorem dX7_forgivenString_28 : decode cX7_forgivenString 28 = .ok (.bipush 30, 2) := dk_16 30 (dk_at dksX7_forgivenString_1 4 rfl rfl)
theorem dX7_forgivenString_30 : decode cX7_forgivenString 30 = .ok (.iload_n 1, 1) := dk_27 (dk_at dksX7_forgivenString_1 6 rfl rfl)
theorem dX7_forgivenString_31 : decode cX7_forgivenString 31 = .ok (.iadd, 1) := dk_96 (dk_at dksX7_forgivenString_1 7 rfl rfl)
theorem dX7_forgivenString_32 : decode cX7_forgivenString 32 = .ok (.iaload, 1) := dk_46 (dk_at dksX7_forgivenString_1 8 rfl rfl)
theorem dX7_forgivenString_33 : decode cX7_forgivenString 33 = .ok (.iconst 4, 1) := dk_7 (dk_at dksX7_forgivenString_1 9 rfl rfl)
theorem dX7_forgivenString_34 : decode cX7_forgivenString 34 = .ok (.irem, 1) := dk_112 (dk_at dksX7_forgivenString_1 10 rfl rfl)
theorem dX7_forgivenString_35 : decode cX7_forgivenString 35 = .ok (.goto 4, 3) := dk_167 0 4 (dk_at dksX7_forgivenString_1 11 rfl rfl)
theorem dX7_forgivenString_38 : decode cX7_forgivenString 38 = .ok (.iconst (-1), 1) := dk_2 (dk_at dksX7_forgivenString_1 14 rfl rfl)
theorem dX7_forgivenString_39 : decode cX7_forgivenString 39 = .ok (.ireturn, 1) := dk_172 (dk_at dksX7_forgivenString_1 15 rfl rfl)
abbrev iX7_forgivenString : xM := (yX7_forgivenString, cX7_forgivenString, 2, (some .int), [])
theorem mX7_forgivenString : xOkM iX7_forgivenString := ⟨by decide +kernel, by decide, q4122, q175⟩
abbrev cX7_obstacle : ByteArray := prog_15_method_126_code
def yX7_obstacle : MethodName := ⟨RX7, "obstacle", "(I)I"⟩
def dkwX7_obstacle_2 : List UInt8 := [180, 0, 29, 27, 46, 172]
abbrev dktX7_obstacle_2 : List UInt8 := dkwX7_obstacle_2 ++ []
def dkwX7_obstacle_1 : List UInt8 := [3, 184, 0, 246, 42, 182, 1, 89, 61, 42, 180, 0, 13, 3, 42, 180, 0, 7, 3, 184, 0, 246, 42]
abbrev dktX7_obstacle_1 : List UInt8 := dkwX7_obstacle_1 ++ dktX7_obstacle_2
def dkwX7_obstacle_0 : List UInt8 := [42, 3, 181, 0, 72, 42, 27, 182, 1, 127, 153, 0, 5, 3, 172, 42, 180, 0, 7, 3, 42, 180, 0, 13]
abbrev dktX7_obstacle_0 : List UInt8 := dkwX7_obstacle_0 ++ dktX7_obstacle_1
theorem dksX7_obstacle_0 : cX7_obstacle.data.toList.drop 0 = dktX7_obstacle_0 := by decide +kernel
theorem dksX7_obstacle_1 : cX7_obstacle.data.toList.drop 24 = dktX7_obstacle_1 := dk_seg dksX7_obstacle_0 24 rfl rfl
theorem dksX7_obstacle_2 : cX7_obstacle.data.toList.drop 47 = dktX7_obstacle_2 := dk_seg dksX7_obstacle_1 23 rfl rfl
theorem dX7_obstacle_0 : decode cX7_obstacle 0 = .ok (.aload_n 0, 1) := dk_42 (dk_at dksX7_obstacle_0 0 rfl rfl)
theorem dX7_obstacle_1 : decode cX7_obstacle 1 = .ok (.iconst 0, 1) := dk_3 (dk_at dksX7_obstacle_0 1 rfl rfl)
theorem dX7_obstacle_2 : decode cX7_obstacle 2 = .ok (.putfield 72, 3) := dk_181 0 72 (dk_at dksX7_obstacle_0 2 rfl rfl)
theorem dX7_obstacle_5 : decode cX7_obstacle 5 = .ok (.aload_n 0, 1) := dk_42 (dk_at dksX7_obstacle_0 5 rfl rfl)
theorem dX7_obstacle_6 : decode cX7_obstacle 6 = .ok (.iload_n 1, 1) := dk_27 (dk_at dksX7_obstacle_0 6 rfl rfl)
theorem dX7_obstacle_7 : decode cX7_obstacle 7 = .ok (.invokevirtual 383, 3) := dk_182 1 127 (dk_at dksX7_obstacle_0 7 rfl rfl)
theorem dX7_obstacle_10 : decode cX7_obstacle 10 = .ok (.ifCond .eq 5, 3) := dk_153 0 5 (dk_at dksX7_obstacle_0 10 rfl rfl)
theorem dX7_obstacle_13 : decode cX7_obstacle 13 = .ok (.iconst 0, 1) := dk_3 (dk_at dksX7_obstacle_0 13 rfl rfl)
theorem dX7_obstacle_14 : decode cX7_obstacle 14 = .ok (.ireturn, 1) := dk_172 (dk_at dksX7_obstacle_0 14 rfl rfl)
theorem dX7_obstacle_15 : decode cX7_obstacle 15 = .ok (.aload_n 0, 1) := dk_42 (dk_at dksX7_obstacle_0 15 rfl rfl)
theorem dX7_obstacle_16 : decode cX7_obstacle 16 = .ok (.getfield 7, 3) := dk_180 0 7 (dk_at dksX7_obstacle_0 16 rfl rfl)
theorem dX7_obstacle_19 : decode cX7_obstacle 19 = .ok (.iconst 0, 1) := dk_3 (dk_at dksX7_obstacle_0 19 rfl rfl)
theorem dX7_obstacle_20 : decode cX7_obstacle 20 = .ok (.aload_n 0, 1) := dk_42 (dk_at dksX7_obstacle_0 20 rfl rfl)
theorem dX7_obstacle_21 : decode cX7_obstacle 21 = .ok (.getfield 13, 3) := dk_180 0 13 (dk_at dksX7_obstacle_0 21 rfl rfl)
theorem dX7_obstacle_24 : decode cX7_obstacle 24 = .ok (.iconst 0, 1) := dk_3 (dk_at dksX7_obstacle_1 0 rfl rfl)
theorem dX7_obstacle_25 : decode cX7_obstacle 25 = .ok (.invokestatic 246, 3) := dk_184 0 246 (dk_at dksX7_obstacle_1 1 rfl rfl)
theorem dX7_obstacle_28 : decode cX7_obstacle 28 = .ok (.aload_n 0, 1) := dk_42 (dk_at dksX7_obstacle_1 4 rfl rfl)
theorem dX7_obstacle_29 : decode cX7_obstacle 29 = .ok (.invokevirtual 345, 3) := dk_182 1 89 (dk_at dksX7_obstacle_1 5 rfl rfl)
theorem dX7_obstacle_32 : decode cX7_obstacle 32 = .ok (.istore_n 2, 1) := dk_61 (dk_at dksX7_obstacle_1 8 rfl rfl)
theorem dX7_obstacle_33 : decode cX7_obstacle 33 = .ok (.aload_n 0, 1) := dk_42 (dk_at dksX7_obstacle_1 9 rfl rfl)
theorem dX7_obstacle_34 : decode cX7_obstacle 34 = .ok (.getfield 13, 3) := dk_180 0 13 (dk_at dksX7_obstacle_1 10 rfl rfl)
theorem dX7_obstacle_37 : decode cX7_obstacle 37 = .ok (.iconst 0, 1) := dk_3 (dk_at dksX7_obstacle_1 13 rfl rfl)
theorem dX7_obstacle_38 : decode cX7_obstacle 38 = .ok (.aload_n 0, 1) := dk_42 (dk_at dksX7_obstacle_1 14 rfl rfl)
theorem dX7_obstacle_39 : decode cX7_obstacle 39 = .ok (.getfield 7, 3) := dk_180 0 7 (dk_at dksX7_obstacle_1 15 rfl rfl)
theorem dX7_obstacle_42 : decode cX7_obstacle 42 = .ok (.iconst 0, 1) := dk_3 (dk_at dksX7_obstacle_1 18 rfl rfl)
theorem dX7_obstacle_43 : decode cX7_obstacle 43 = .ok (.invokestatic 246, 3) := dk_184 0 246 (dk_at dksX7_obstacle_1 19 rfl rfl)
theorem dX7_obstacle_46 : decode cX7_obstacle 46 = .ok (.aload_n 0, 1) := dk_42 (dk_at dksX7_obstacle_1 22 rfl rfl)
theorem dX7_obstacle_47 : decode cX7_obstacle 47 = .ok (.getfield 29, 3) := dk_180 0 29 (dk_at dksX7_obstacle_2 0 rfl rfl)
theorem dX7_obstacle_50 : decode cX7_obstacle 50 = .ok (.iload_n 1, 1) := dk_27 (dk_at dksX7_obstacle_2 3 rfl rfl)
theorem dX7_obstacle_51 : decode cX7_obstacle 51 = .ok (.iaload, 1) := dk_46 (dk_at dksX7_obstacle_2 4 rfl rfl)
theorem dX7_obstacle_52 : decode cX7_obstacle 52 = .ok (.ireturn, 1) := dk_172 (dk_at dksX7_obstacle_2 5 rfl rfl)
abbrev iX7_obstacle : xM := (yX7_obstacle, cX7_obstacle, 3, (some .int), [])
theorem mX7_obstacle : xOkM iX7_obstacle := ⟨by decide +kernel, by decide, q4126, q175⟩
abbrev cX7_nextReference : ByteArray := prog_15_method_128_code
def yX7_nextReference : MethodName := ⟨RX7, "nextReference", "(I)I"⟩
def dkwX7_nextReference_1 : List UInt8 := [182, 1, 159, 172]
abbrev dktX7_nextReference_1 : List UInt8 := dkwX7_nextReference_1 ++ []
def dkwX7_nextReference_0 : List UInt8 := [42, 3, 181, 0, 72, 42, 27, 182, 1, 127, 153, 0, 7, 3, 167, 0, 12, 42, 27, 6, 184, 0, 65]
abbrev dktX7_nextReference_0 : List UInt8 := dkwX7_nextReference_0 ++ dktX7_nextReference_1
theorem dksX7_nextReference_0 : cX7_nextReference.data.toList.drop 0 = dktX7_nextReference_0 := by decide +kernel
theorem dksX7_nextReference_1 : cX7_nextReference.data.toList.drop 23 = dktX7_nextReference_1 := dk_seg dksX7_nextReference_0 23 rfl rfl
theorem dX7_nextReference_0 : decode cX7_nextReference 0 = .ok (.aload_n 0, 1) := dk_42 (dk_at dksX7_nextReference_0 0 rfl rfl)
theorem dX7_nextReference_1 : decode cX7_nextReference 1 = .ok (.iconst 0, 1) := dk_3 (dk_at dksX7_nextReference_0 1 rfl rfl)
theorem dX7_nextReference_2 : decode cX7_nextReference 2 = .ok (.putfield 72, 3) := dk_181 0 72 (dk_at dksX7_nextReference_0 2 rfl rfl)
theorem dX7_nextReference_5 : decode cX7_nextReference 5 = .ok (.aload_n 0, 1) := dk_42 (dk_at dksX7_nextReference_0 5 rfl rfl)
theorem dX7_nextReference_6 : decode cX7_nextReference 6 = .ok (.iload_n 1, 1) := dk_27 (dk_at dksX7_nextReference_0 6 rfl rfl)
theorem dX7_nextReference_7 : decode cX7_nextReference 7 = .ok (.invokevirtual 383, 3) := dk_182 1 127 (dk_at dksX7_nextReference_0 7 rfl rfl)
theorem dX7_nextReference_10 : decode cX7_nextReference 10 = .ok (.ifCond .eq 7, 3) := dk_153 0 7 (dk_at dksX7_nextReference_0 10 rfl rfl)
theorem dX7_nextReference_13 : decode cX7_nextReference 13 = .ok (.iconst 0, 1) := dk_3 (dk_at dksX7_nextReference_0 13 rfl rfl)
theorem dX7_nextReference_14 : decode cX7_nextReference 14 = .ok (.goto 12, 3) := dk_167 0 12 (dk_at dksX7_nextReference_0 14 rfl rfl)
theorem dX7_nextReference_17 : decode cX7_nextReference 17 = .ok (.aload_n 0, 1) := dk_42 (dk_at dksX7_nextReference_0 17 rfl rfl)
theorem dX7_nextReference_18 : decode cX7_nextReference 18 = .ok (.iload_n 1, 1) := dk_27 (dk_at dksX7_nextReference_0 18 rfl rfl)
theorem dX7_nextReference_19 : decode cX7_nextReference 19 = .ok (.iconst 3, 1) := dk_6 (dk_at dksX7_nextReference_0 19 rfl rfl)
theorem dX7_nextReference_20 : decode cX7_nextReference 20 = .ok (.invokestatic 65, 3) := dk_184 0 65 (dk_at dksX7_nextReference_0 20 rfl rfl)
theorem dX7_nextReference_23 : decode cX7_nextReference 23 = .ok (.invokevirtual 415, 3) := dk_182 1 159 (dk_at dksX7_nextReference_1 0 rfl rfl)
theorem dX7_nextReference_26 : decode cX7_nextReference 26 = .ok (.ireturn, 1) := dk_172 (dk_at dksX7_nextReference_1 3 rfl rfl)
abbrev iX7_nextReference : xM := (yX7_nextReference, cX7_nextReference, 2, (some .int), [])
theorem mX7_nextReference : xOkM iX7_nextReference := ⟨by decide +kernel, by decide, q4130, q175⟩
abbrev cX7_behindRound : ByteArray := prog_15_method_127_code
def yX7_behindRound : MethodName := ⟨RX7, "behindRound", "(I)I"⟩
def dkwX7_behindRound_2 : List UInt8 := [172]
abbrev dktX7_behindRound_2 : List UInt8 := dkwX7_behindRound_2 ++ []
def dkwX7_behindRound_1 : List UInt8 := [167, 0, 9, 42, 180, 0, 7, 27, 46, 62, 42, 180, 0, 13, 3, 42, 180, 0, 7, 3, 184, 0, 246, 29]
abbrev dktX7_behindRound_1 : List UInt8 := dkwX7_behindRound_1 ++ dktX7_behindRound_2
def dkwX7_behindRound_0 : List UInt8 := [42, 180, 0, 7, 3, 42, 180, 0, 13, 3, 184, 0, 246, 42, 182, 1, 89, 61, 27, 2, 160, 0, 7, 28]
abbrev dktX7_behindRound_0 : List UInt8 := dkwX7_behindRound_0 ++ dktX7_behindRound_1
theorem dksX7_behindRound_0 : cX7_behindRound.data.toList.drop 0 = dktX7_behindRound_0 := by decide +kernel
theorem dksX7_behindRound_1 : cX7_behindRound.data.toList.drop 24 = dktX7_behindRound_1 := dk_seg dksX7_behindRound_0 24 rfl rfl
theorem dksX7_behindRound_2 : cX7_behindRound.data.toList.drop 48 = dktX7_behindRound_2 := dk_seg dksX7_behindRound_1 24 rfl rfl
theorem dX7_behindRound_0 : decode cX7_behindRound 0 = .ok (.aload_n 0, 1) := dk_42 (dk_at dksX7_behindRound_0 0 rfl rfl)
theorem dX7_behindRound_1 : decode cX7_behindRound 1 = .ok (.getfield 7, 3) := dk_180 0 7 (dk_at dksX7_behindRound_0 1 rfl rfl)
theorem dX7_behindRound_4 : decode cX7_behindRound 4 = .ok (.iconst 0, 1) := dk_3 (dk_at dksX7_behindRound_0 4 rfl rfl)
theorem dX7_behindRound_5 : decode cX7_behindRound 5 = .ok (.aload_n 0, 1) := dk_42 (dk_at dksX7_behindRound_0 5 rfl rfl)
theorem dX7_behindRound_6 : decode cX7_behindRound 6 = .ok (.getfield 13, 3) := dk_180 0 13 (dk_at dksX7_behindRound_0 6 rfl rfl)
theorem dX7_behindRound_9 : decode cX7_behindRound 9 = .ok (.iconst 0, 1) := dk_3 (dk_at dksX7_behindRound_0 9 rfl rfl)
theorem dX7_behindRound_10 : decode cX7_behindRound 10 = .ok (.invokestatic 246, 3) := dk_184 0 246 (dk_at dksX7_behindRound_0 10 rfl rfl)
theorem dX7_behindRound_13 : decode cX7_behindRound 13 = .ok (.aload_n 0, 1) := dk_42 (dk_at dksX7_behindRound_0 13 rfl rfl)
theorem dX7_behindRound_14 : decode cX7_behindRound 14 = .ok (.invokevirtual 345, 3) := dk_182 1 89 (dk_at dksX7_behindRound_0 14 rfl rfl)
theorem dX7_behindRound_17 : decode cX7_behindRound 17 = .ok (.istore_n 2, 1) := dk_61 (dk_at dksX7_behindRound_0 17 rfl rfl)
theorem dX7_behindRound_18 : decode cX7_behindRound 18 = .ok (.iload_n 1, 1) := dk_27 (dk_at dksX7_behindRound_0 18 rfl rfl)
theorem dX7_behindRound_19 : decode cX7_behindRound 19 = .ok (.iconst (-1), 1) := dk_2 (dk_at dksX7_behindRound_0 19 rfl rfl)
theorem dX7_behindRound_20 : decode cX7_behindRound 20 = .ok (.if_icmp .ne 7, 3) := dk_160 0 7 (dk_at dksX7_behindRound_0 20 rfl rfl)
theorem dX7_behindRound_23 : decode cX7_behindRound 23 = .ok (.iload_n 2, 1) := dk_28 (dk_at dksX7_behindRound_0 23 rfl rfl)
theorem dX7_behindRound_24 : decode cX7_behindRound 24 = .ok (.goto 9, 3) := dk_167 0 9 (dk_at dksX7_behindRound_1 0 rfl rfl)
theorem dX7_behindRound_27 : decode cX7_behindRound 27 = .ok (.aload_n 0, 1) := dk_42 (dk_at dksX7_behindRound_1 3 rfl rfl)
theorem dX7_behindRound_28 : decode cX7_behindRound 28 = .ok (.getfield 7, 3) := dk_180 0 7 (dk_at dksX7_behindRound_1 4 rfl rfl)
theorem dX7_behindRound_31 : decode cX7_behindRound 31 = .ok (.iload_n 1, 1) := dk_27 (dk_at dksX7_behindRound_1 7 rfl rfl)
theorem dX7_behindRound_32 : decode cX7_behindRound 32 = .ok (.iaload, 1) := dk_46 (dk_at dksX7_behindRound_1 8 rfl rfl)
theorem dX7_behindRound_33 : decode cX7_behindRound 33 = .ok (.istore_n 3, 1) := dk_62 (dk_at dksX7_behindRound_1 9 rfl rfl)
theorem dX7_behindRound_34 : decode cX7_behindRound 34 = .ok (.aload_n 0, 1) := dk_42 (dk_at dksX7_behindRound_1 10 rfl rfl)
theorem dX7_behindRound_35 : decode cX7_behindRound 35 = .ok (.getfield 13, 3) := dk_180 0 13 (dk_at dksX7_behindRound_1 11 rfl rfl)
theorem dX7_behindRound_38 : decode cX7_behindRound 38 = .ok (.iconst 0, 1) := dk_3 (dk_at dksX7_behindRound_1 14 rfl rfl)
theorem dX7_behindRound_39 : decode cX7_behindRound 39 = .ok (.aload_n 0, 1) := dk_42 (dk_at dksX7_behindRound_1 15 rfl rfl)
theorem dX7_behindRound_40 : decode cX7_behindRound 40 = .ok (.getfield 7, 3) := dk_180 0 7 (dk_at dksX7_behindRound_1 16 rfl rfl)
theorem dX7_behindRound_43 : decode cX7_behindRound 43 = .ok (.iconst 0, 1) := dk_3 (dk_at dksX7_behindRound_1 19 rfl rfl)
theorem dX7_behindRound_44 : decode cX7_behindRound 44 = .ok (.invokestatic 246, 3) := dk_184 0 246 (dk_at dksX7_behindRound_1 20 rfl rfl)
theorem dX7_behindRound_47 : decode cX7_behindRound 47 = .ok (.iload_n 3, 1) := dk_29 (dk_at dksX7_behindRound_1 23 rfl rfl)
theorem dX7_behindRound_48 : decode cX7_behindRound 48 = .ok (.ireturn, 1) := dk_172 (dk_at dksX7_behindRound_2 0 rfl rfl)
abbrev iX7_behindRound : xM := (yX7_behindRound, cX7_behindRound, 4, (some .int), [])
theorem mX7_behindRound : xOkM iX7_behindRound := ⟨by decide +kernel, by decide, q4134, q175⟩
abbrev cX7_nextTurns : ByteArray := prog_15_method_129_code
def yX7_nextTurns : MethodName := ⟨RX7, "nextTurns", "()I"⟩
def dkwX7_nextTurns_0 : List UInt8 := [42, 3, 181, 0, 72, 42, 16, 16, 182, 1, 159, 42, 180, 0, 7, 16, 16, 46, 100, 172]
abbrev dktX7_nextTurns_0 : List UInt8 := dkwX7_nextTurns_0 ++ []
theorem dksX7_nextTurns_0 : cX7_nextTurns.data.toList.drop 0 = dktX7_nextTurns_0 := by decide +kernel
theorem dX7_nextTurns_0 : decode cX7_nextTurns 0 = .ok (.aload_n 0, 1) := dk_42 (dk_at dksX7_nextTurns_0 0 rfl rfl)
theorem dX7_nextTurns_1 : decode cX7_nextTurns 1 = .ok (.iconst 0, 1) := dk_3 (dk_at dksX7_nextTurns_0 1 rfl rfl)
theorem dX7_nextTurns_2 : decode cX7_nextTurns 2 = .ok (.putfield 72, 3) := dk_181 0 72 (dk_at dksX7_nextTurns_0 2 rfl rfl)
theorem dX7_nextTurns_5 : decode cX7_nextTurns 5 = .ok (.aload_n 0, 1) := dk_42 (dk_at dksX7_nextTurns_0 5 rfl rfl)
theorem dX7_nextTurns_6 : decode cX7_nextTurns 6 = .ok (.bipush 16, 2) := dk_16 16 (dk_at dksX7_nextTurns_0 6 rfl rfl)
theorem dX7_nextTurns_8 : decode cX7_nextTurns 8 = .ok (.invokevirtual 415, 3) := dk_182 1 159 (dk_at dksX7_nextTurns_0 8 rfl rfl)
theorem dX7_nextTurns_11 : decode cX7_nextTurns 11 = .ok (.aload_n 0, 1) := dk_42 (dk_at dksX7_nextTurns_0 11 rfl rfl)
theorem dX7_nextTurns_12 : decode cX7_nextTurns 12 = .ok (.getfield 7, 3) := dk_180 0 7 (dk_at dksX7_nextTurns_0 12 rfl rfl)
theorem dX7_nextTurns_15 : decode cX7_nextTurns 15 = .ok (.bipush 16, 2) := dk_16 16 (dk_at dksX7_nextTurns_0 15 rfl rfl)
theorem dX7_nextTurns_17 : decode cX7_nextTurns 17 = .ok (.iaload, 1) := dk_46 (dk_at dksX7_nextTurns_0 17 rfl rfl)
theorem dX7_nextTurns_18 : decode cX7_nextTurns 18 = .ok (.isub, 1) := dk_100 (dk_at dksX7_nextTurns_0 18 rfl rfl)
theorem dX7_nextTurns_19 : decode cX7_nextTurns 19 = .ok (.ireturn, 1) := dk_172 (dk_at dksX7_nextTurns_0 19 rfl rfl)
abbrev iX7_nextTurns : xM := (yX7_nextTurns, cX7_nextTurns, 1, (some .int), [])
theorem mX7_nextTurns : xOkM iX7_nextTurns := ⟨by decide +kernel, by decide, q4138, q175⟩
abbrev cX7_nextInTune : ByteArray := prog_15_method_130_code
def yX7_nextInTune : MethodName := ⟨RX7, "nextInTune", "()I"⟩
def dkwX7_nextInTune_0 : List UInt8 := [42, 3, 181, 0, 72, 42, 2, 182, 1, 159, 172]
abbrev dktX7_nextInTune_0 : List UInt8 := dkwX7_nextInTune_0 ++ []
theorem dksX7_nextInTune_0 : cX7_nextInTune.data.toList.drop 0 = dktX7_nextInTune_0 := by decide +kernel
theorem dX7_nextInTune_0 : decode cX7_nextInTune 0 = .ok (.aload_n 0, 1) := dk_42 (dk_at dksX7_nextInTune_0 0 rfl rfl)
theorem dX7_nextInTune_1 : decode cX7_nextInTune 1 = .ok (.iconst 0, 1) := dk_3 (dk_at dksX7_nextInTune_0 1 rfl rfl)
theorem dX7_nextInTune_2 : decode cX7_nextInTune 2 = .ok (.putfield 72, 3) := dk_181 0 72 (dk_at dksX7_nextInTune_0 2 rfl rfl)
theorem dX7_nextInTune_5 : decode cX7_nextInTune 5 = .ok (.aload_n 0, 1) := dk_42 (dk_at dksX7_nextInTune_0 5 rfl rfl)
theorem dX7_nextInTune_6 : decode cX7_nextInTune 6 = .ok (.iconst (-1), 1) := dk_2 (dk_at dksX7_nextInTune_0 6 rfl rfl)
theorem dX7_nextInTune_7 : decode cX7_nextInTune 7 = .ok (.invokevirtual 415, 3) := dk_182 1 159 (dk_at dksX7_nextInTune_0 7 rfl rfl)
theorem dX7_nextInTune_10 : decode cX7_nextInTune 10 = .ok (.ireturn, 1) := dk_172 (dk_at dksX7_nextInTune_0 10 rfl rfl)
abbrev iX7_nextInTune : xM := (yX7_nextInTune, cX7_nextInTune, 1, (some .int), [])
theorem mX7_nextInTune : xOkM iX7_nextInTune := ⟨by decide +kernel, by decide, q4142, q175⟩
abbrev cX7_roundCount : ByteArray := prog_15_method_131_code
def yX7_roundCount : MethodName := ⟨RX7, "roundCount", "()I"⟩
def dkwX7_roundCount_0 : List UInt8 := [42, 16, 15, 182, 1, 144, 172]
abbrev dktX7_roundCount_0 : List UInt8 := dkwX7_roundCount_0 ++ []
theorem dksX7_roundCount_0 : cX7_roundCount.data.toList.drop 0 = dktX7_roundCount_0 := by decide +kernel
theorem dX7_roundCount_0 : decode cX7_roundCount 0 = .ok (.aload_n 0, 1) := dk_42 (dk_at dksX7_roundCount_0 0 rfl rfl)
theorem dX7_roundCount_1 : decode cX7_roundCount 1 = .ok (.bipush 15, 2) := dk_16 15 (dk_at dksX7_roundCount_0 1 rfl rfl)
theorem dX7_roundCount_3 : decode cX7_roundCount 3 = .ok (.invokevirtual 400, 3) := dk_182 1 144 (dk_at dksX7_roundCount_0 3 rfl rfl)
theorem dX7_roundCount_6 : decode cX7_roundCount 6 = .ok (.ireturn, 1) := dk_172 (dk_at dksX7_roundCount_0 6 rfl rfl)
abbrev iX7_roundCount : xM := (yX7_roundCount, cX7_roundCount, 1, (some .int), [])
theorem mX7_roundCount : xOkM iX7_roundCount := ⟨by decide +kernel, by decide, q4146, q175⟩
abbrev cX7_turnCount : ByteArray := prog_15_method_132_code
def yX7_turnCount : MethodName := ⟨RX7, "turnCount", "()I"⟩
def dkwX7_turnCount_0 : List UInt8 := [42, 16, 16, 182, 1, 144, 172]
abbrev dktX7_turnCount_0 : List UInt8 := dkwX7_turnCount_0 ++ []
theorem dksX7_turnCount_0 : cX7_turnCount.data.toList.drop 0 = dktX7_turnCount_0 := by decide +kernel
theorem dX7_turnCount_0 : decode cX7_turnCount 0 = .ok (.aload_n 0, 1) := dk_42 (dk_at dksX7_turnCount_0 0 rfl rfl)
theorem dX7_turnCount_1 : decode cX7_turnCount 1 = .ok (.bipush 16, 2) := dk_16 16 (dk_at dksX7_turnCount_0 1 rfl rfl)
theorem dX7_turnCount_3 : decode cX7_turnCount 3 = .ok (.invokevirtual 400, 3) := dk_182 1 144 (dk_at dksX7_turnCount_0 3 rfl rfl)
theorem dX7_turnCount_6 : decode cX7_turnCount 6 = .ok (.ireturn, 1) := dk_172 (dk_at dksX7_turnCount_0 6 rfl rfl)
abbrev iX7_turnCount : xM := (yX7_turnCount, cX7_turnCount, 1, (some .int), [])
theorem mX7_turnCount : xOkM iX7_turnCount := ⟨by decide +kernel, by decide, q4150, q175⟩
abbrev cX7_forgivenCount : ByteArray := prog_15_method_133_code
def yX7_forgivenCount : MethodName := ⟨RX7, "forgivenCount", "()I"⟩
def dkwX7_forgivenCount_0 : List UInt8 := [42, 16, 17, 182, 1, 144, 172]
abbrev dktX7_forgivenCount_0 : List UInt8 := dkwX7_forgivenCount_0 ++ []
theorem dksX7_forgivenCount_0 : cX7_forgivenCount.data.toList.drop 0 = dktX7_forgivenCount_0 := by decide +kernel
theorem dX7_forgivenCount_0 : decode cX7_forgivenCount 0 = .ok (.aload_n 0, 1) := dk_42 (dk_at dksX7_forgivenCount_0 0 rfl rfl)
theorem dX7_forgivenCount_1 : decode cX7_forgivenCount 1 = .ok (.bipush 17, 2) := dk_16 17 (dk_at dksX7_forgivenCount_0 1 rfl rfl)
theorem dX7_forgivenCount_3 : decode cX7_forgivenCount 3 = .ok (.invokevirtual 400, 3) := dk_182 1 144 (dk_at dksX7_forgivenCount_0 3 rfl rfl)
theorem dX7_forgivenCount_6 : decode cX7_forgivenCount 6 = .ok (.ireturn, 1) := dk_172 (dk_at dksX7_forgivenCount_0 6 rfl rfl)
abbrev iX7_forgivenCount : xM := (yX7_forgivenCount, cX7_forgivenCount, 1, (some .int), [])
theorem mX7_forgivenCount : xOkM iX7_forgivenCount := ⟨by decide +kernel, by decide, q4154, q175⟩
abbrev cX7_breakCount : ByteArray := prog_15_method_134_code
def yX7_breakCount : MethodName := ⟨RX7, "breakCount", "()I"⟩
def dkwX7_breakCount_0 : List UInt8 := [42, 16, 18, 182, 1, 144, 172]
abbrev dktX7_breakCount_0 : List UInt8 := dkwX7_breakCount_0 ++ []
theorem dksX7_breakCount_0 : cX7_breakCount.data.toList.drop 0 = dktX7_breakCount_0 := by decide +kernel
theorem dX7_breakCount_0 : decode cX7_breakCount 0 = .ok (.aload_n 0, 1) := dk_42 (dk_at dksX7_breakCount_0 0 rfl rfl)
theorem dX7_breakCount_1 : decode cX7_breakCount 1 = .ok (.bipush 18, 2) := dk_16 18 (dk_at dksX7_breakCount_0 1 rfl rfl)
theorem dX7_breakCount_3 : decode cX7_breakCount 3 = .ok (.invokevirtual 400, 3) := dk_182 1 144 (dk_at dksX7_breakCount_0 3 rfl rfl)
theorem dX7_breakCount_6 : decode cX7_breakCount 6 = .ok (.ireturn, 1) := dk_172 (dk_at dksX7_breakCount_0 6 rfl rfl)
abbrev iX7_breakCount : xM := (yX7_breakCount, cX7_breakCount, 1, (some .int), [])
theorem mX7_breakCount : xOkM iX7_breakCount := ⟨by decide +kernel, by decide, q4158, q175⟩
abbrev cX7_meanDeviation : ByteArray := prog_15_method_135_code
def yX7_meanDeviation : MethodName := ⟨RX7, "meanDeviation", "()D"⟩
def dkwX7_meanDeviation_3 : List UInt8 := [167, 0, 8, 28, 135, 27, 135, 111, 175]
abbrev dktX7_meanDeviation_3 : List UInt8 := dkwX7_meanDeviation_3 ++ []
def dkwX7_meanDeviation_2 : List UInt8 := [7, 112, 96, 182, 0, 75, 184, 0, 93, 96, 61, 132, 3, 1, 167, 255, 205, 27, 154, 0, 7, 14]
abbrev dktX7_meanDeviation_2 : List UInt8 := dkwX7_meanDeviation_2 ++ dktX7_meanDeviation_3
def dkwX7_meanDeviation_1 : List UInt8 := [42, 29, 7, 108, 29, 7, 112, 182, 0, 85, 154, 0, 25, 132, 1, 1, 28, 42, 29, 7, 108, 16, 9, 29]
abbrev dktX7_meanDeviation_1 : List UInt8 := dkwX7_meanDeviation_1 ++ dktX7_meanDeviation_2
def dkwX7_meanDeviation_0 : List UInt8 := [42, 3, 181, 0, 72, 3, 60, 3, 61, 3, 62, 29, 7, 42, 180, 0, 7, 16, 13, 46, 104, 162, 0, 44]
abbrev dktX7_meanDeviation_0 : List UInt8 := dkwX7_meanDeviation_0 ++ dktX7_meanDeviation_1
theorem dksX7_meanDeviation_0 : cX7_meanDeviation.data.toList.drop 0 = dktX7_meanDeviation_0 := by decide +kernel
theorem dksX7_meanDeviation_1 : cX7_meanDeviation.data.toList.drop 24 = dktX7_meanDeviation_1 := dk_seg dksX7_meanDeviation_0 24 rfl rfl
theorem dksX7_meanDeviation_2 : cX7_meanDeviation.data.toList.drop 48 = dktX7_meanDeviation_2 := dk_seg dksX7_meanDeviation_1 24 rfl rfl
theorem dksX7_meanDeviation_3 : cX7_meanDeviation.data.toList.drop 70 = dktX7_meanDeviation_3 := dk_seg dksX7_meanDeviation_2 22 rfl rfl
theorem dX7_meanDeviation_0 : decode cX7_meanDeviation 0 = .ok (.aload_n 0, 1) := dk_42 (dk_at dksX7_meanDeviation_0 0 rfl rfl)
theorem dX7_meanDeviation_1 : decode cX7_meanDeviation 1 = .ok (.iconst 0, 1) := dk_3 (dk_at dksX7_meanDeviation_0 1 rfl rfl)
theorem dX7_meanDeviation_2 : decode cX7_meanDeviation 2 = .ok (.putfield 72, 3) := dk_181 0 72 (dk_at dksX7_meanDeviation_0 2 rfl rfl)
theorem dX7_meanDeviation_5 : decode cX7_meanDeviation 5 = .ok (.iconst 0, 1) := dk_3 (dk_at dksX7_meanDeviation_0 5 rfl rfl)
theorem dX7_meanDeviation_6 : decode cX7_meanDeviation 6 = .ok (.istore_n 1, 1) := dk_60 (dk_at dksX7_meanDeviation_0 6 rfl rfl)
theorem dX7_meanDeviation_7 : decode cX7_meanDeviation 7 = .ok (.iconst 0, 1) := dk_3 (dk_at dksX7_meanDeviation_0 7 rfl rfl)
theorem dX7_meanDeviation_8 : decode cX7_meanDeviation 8 = .ok (.istore_n 2, 1) := dk_61 (dk_at dksX7_meanDeviation_0 8 rfl rfl)
theorem dX7_meanDeviation_9 : decode cX7_meanDeviation 9 = .ok (.iconst 0, 1) := dk_3 (dk_at dksX7_meanDeviation_0 9 rfl rfl)
theorem dX7_meanDeviation_10 : decode cX7_meanDeviation 10 = .ok (.istore_n 3, 1) := dk_62 (dk_at dksX7_meanDeviation_0 10 rfl rfl)
theorem dX7_meanDeviation_11 : decode cX7_meanDeviation 11 = .ok (.iload_n 3, 1) := dk_29 (dk_at dksX7_meanDeviation_0 11 rfl rfl)
theorem dX7_meanDeviation_12 : decode cX7_meanDeviation 12 = .ok (.iconst 4, 1) := dk_7 (dk_at dksX7_meanDeviation_0 12 rfl rfl)
theorem dX7_meanDeviation_13 : decode cX7_meanDeviation 13 = .ok (.aload_n 0, 1) := dk_42 (dk_at dksX7_meanDeviation_0 13 rfl rfl)
theorem dX7_meanDeviation_14 : decode cX7_meanDeviation 14 = .ok (.getfield 7, 3) := dk_180 0 7 (dk_at dksX7_meanDeviation_0 14 rfl rfl)
theorem dX7_meanDeviation_17 : decode cX7_meanDeviation 17 = .ok (.bipush 13, 2) := dk_16 13 (dk_at dksX7_meanDeviation_0 17 rfl rfl)
theorem dX7_meanDeviation_19 : decode cX7_meanDeviation 19 = .ok (.iaload, 1) := dk_46 (dk_at dksX7_meanDeviation_0 19 rfl rfl)
theorem dX7_meanDeviation_20 : decode cX7_meanDeviation 20 = .ok (.imul, 1) := dk_104 (dk_at dksX7_meanDeviation_0 20 rfl rfl)
theorem dX7_meanDeviation_21 : decode cX7_meanDeviation 21 = .ok (.if_icmp .ge 44, 3) := dk_162 0 44 (dk_at dksX7_meanDeviation_0 21 rfl rfl)
theorem dX7_meanDeviation_24 : decode cX7_meanDeviation 24 = .ok (.aload_n 0, 1) := dk_42 (dk_at dksX7_meanDeviation_1 0 rfl rfl)
theorem dX7_meanDeviation_25 : decode cX7_meanDeviation 25 = .ok (.iload_n 3, 1) := dk_29 (dk_at dksX7_meanDeviation_1 1 rfl rfl)
theorem dX7_meanDeviation_26 : decode cX7_meanDeviation 26 = .ok (.iconst 4, 1) := dk_7 (dk_at dksX7_meanDeviation_1 2 rfl rfl)
theorem dX7_meanDeviation_27 : decode cX7_meanDeviation 27 = .ok (.idiv, 1) := dk_108 (dk_at dksX7_meanDeviation_1 3 rfl rfl)
theorem dX7_meanDeviation_28 : decode cX7_meanDeviation 28 = .ok (.iload_n 3, 1) := dk_29 (dk_at dksX7_meanDeviation_1 4 rfl rfl)
theorem dX7_meanDeviation_29 : decode cX7_meanDeviation 29 = .ok (.iconst 4, 1) := dk_7 (dk_at dksX7_meanDeviation_1 5 rfl rfl)
theorem dX7_meanDeviation_30 : decode cX7_meanDeviation 30 = .ok (.irem, 1) := dk_112 (dk_at dksX7_meanDeviation_1 6 rfl rfl)
theorem dX7_meanDeviation_31 : decode cX7_meanDeviation 31 = .ok (.invokevirtual 85, 3) := dk_182 0 85 (dk_at dksX7_meanDeviation_1 7 rfl rfl)
theorem dX7_meanDeviation_34 : decode cX7_meanDeviation 34 = .ok (.ifCond .ne 25, 3) := dk_154 0 25 (dk_at dksX7_meanDeviation_1 10 rfl rfl)
theorem dX7_meanDeviation_37 : decode cX7_meanDeviation 37 = .ok (.iinc 1 1, 3) := dk_132 1 1 (dk_at dksX7_meanDeviation_1 13 rfl rfl)
theorem dX7_meanDeviation_40 : decode cX7_meanDeviation 40 = .ok (.iload_n 2, 1) := dk_28 (dk_at dksX7_meanDeviation_1 16 rfl rfl)
theorem dX7_meanDeviation_41 : decode cX7_meanDeviation 41 = .ok (.aload_n 0, 1) := dk_42 (dk_at dksX7_meanDeviation_1 17 rfl rfl)
theorem dX7_meanDeviation_42 : decode cX7_meanDeviation 42 = .ok (.iload_n 3, 1) := dk_29 (dk_at dksX7_meanDeviation_1 18 rfl rfl)
theorem dX7_meanDeviation_43 : decode cX7_meanDeviation 43 = .ok (.iconst 4, 1) := dk_7 (dk_at dksX7_meanDeviation_1 19 rfl rfl)
theorem dX7_meanDeviation_44 : decode cX7_meanDeviation 44 = .ok (.idiv, 1) := dk_108 (dk_at dksX7_meanDeviation_1 20 rfl rfl)
theorem dX7_meanDeviation_45 : decode cX7_meanDeviation 45 = .ok (.bipush 9, 2) := dk_16 9 (dk_at dksX7_meanDeviation_1 21 rfl rfl)
theorem dX7_meanDeviation_47 : decode cX7_meanDeviation 47 = .ok (.iload_n 3, 1) := dk_29 (dk_at dksX7_meanDeviation_1 23 rfl rfl)
theorem dX7_meanDeviation_48 : decode cX7_meanDeviation 48 = .ok (.iconst 4, 1) := dk_7 (dk_at dksX7_meanDeviation_2 0 rfl rfl)
theorem dX7_meanDeviation_49 : decode cX7_meanDeviation 49 = .ok (.irem, 1) := dk_112 (dk_at dksX7_meanDeviation_2 1 rfl rfl)
theorem dX7_meanDeviation_50 : decode cX7_meanDeviation 50 = .ok (.iadd, 1) := dk_96 (dk_at dksX7_meanDeviation_2 2 rfl rfl)
theorem dX7_meanDeviation_51 : decode cX7_meanDeviation 51 = .ok (.invokevirtual 75, 3) := dk_182 0 75 (dk_at dksX7_meanDeviation_2 3 rfl rfl)
theorem dX7_meanDeviation_54 : decode cX7_meanDeviation 54 = .ok (.invokestatic 93, 3) := dk_184 0 93 (dk_at dksX7_meanDeviation_2 6 rfl rfl)
theorem dX7_meanDeviation_57 : decode cX7_meanDeviation 57 = .ok (.iadd, 1) := dk_96 (dk_at dksX7_meanDeviation_2 9 rfl rfl)
theorem dX7_meanDeviation_58 : decode cX7_meanDeviation 58 = .ok (.istore_n 2, 1) := dk_61 (dk_at dksX7_meanDeviation_2 10 rfl rfl)
theorem dX7_meanDeviation_59 : decode cX7_meanDeviation 59 = .ok (.iinc 3 1, 3) := dk_132 3 1 (dk_at dksX7_meanDeviation_2 11 rfl rfl)
theorem dX7_meanDeviation_62 : decode cX7_meanDeviation 62 = .ok (.goto (-51), 3) := dk_167 255 205 (dk_at dksX7_meanDeviation_2 14 rfl rfl)
theorem dX7_meanDeviation_65 : decode cX7_meanDeviation 65 = .ok (.iload_n 1, 1) := dk_27 (dk_at dksX7_meanDeviation_2 17 rfl rfl)
theorem dX7_meanDeviation_66 : decode cX7_meanDeviation 66 = .ok (.ifCond .ne 7, 3) := dk_154 0 7 (dk_at dksX7_meanDeviation_2 18 rfl rfl)
theorem dX7_meanDeviation_69 : decode cX7_meanDeviation 69 = .ok (.dconst 0, 1) := dk_14 (dk_at dksX7_meanDeviation_2 21 rfl rfl)
theorem dX7_meanDeviation_70 : decode cX7_meanDeviation 70 = .ok (.goto 8, 3) := dk_167 0 8 (dk_at dksX7_meanDeviation_3 0 rfl rfl)
theorem dX7_meanDeviation_73 : decode cX7_meanDeviation 73 = .ok (.iload_n 2, 1) := dk_28 (dk_at dksX7_meanDeviation_3 3 rfl rfl)
theorem dX7_meanDeviation_74 : decode cX7_meanDeviation 74 = .ok (.i2d, 1) := dk_135 (dk_at dksX7_meanDeviation_3 4 rfl rfl)
theorem dX7_meanDeviation_75 : decode cX7_meanDeviation 75 = .ok (.iload_n 1, 1) := dk_27 (dk_at dksX7_meanDeviation_3 5 rfl rfl)
theorem dX7_meanDeviation_76 : decode cX7_meanDeviation 76 = .ok (.i2d, 1) := dk_135 (dk_at dksX7_meanDeviation_3 6 rfl rfl)
theorem dX7_meanDeviation_77 : decode cX7_meanDeviation 77 = .ok (.ddiv, 1) := dk_111 (dk_at dksX7_meanDeviation_3 7 rfl rfl)
theorem dX7_meanDeviation_78 : decode cX7_meanDeviation 78 = .ok (.dreturn, 1) := dk_175 (dk_at dksX7_meanDeviation_3 8 rfl rfl)
abbrev iX7_meanDeviation : xM := (yX7_meanDeviation, cX7_meanDeviation, 4, (some .double), [])
theorem mX7_meanDeviation : xOkM iX7_meanDeviation := ⟨by decide +kernel, by decide, q4162, q175⟩
abbrev cX7_inTuneShare : ByteArray := prog_15_method_136_code
def yX7_inTuneShare : MethodName := ⟨RX7, "inTuneShare", "()F"⟩
def dkwX7_inTuneShare_0 : List UInt8 := [42, 3, 181, 0, 72, 42, 182, 0, 117, 134, 42, 180, 0, 7, 16, 13, 46, 134, 110, 174]
abbrev dktX7_inTuneShare_0 : List UInt8 := dkwX7_inTuneShare_0 ++ []
theorem dksX7_inTuneShare_0 : cX7_inTuneShare.data.toList.drop 0 = dktX7_inTuneShare_0 := by decide +kernel
theorem dX7_inTuneShare_0 : decode cX7_inTuneShare 0 = .ok (.aload_n 0, 1) := dk_42 (dk_at dksX7_inTuneShare_0 0 rfl rfl)
theorem dX7_inTuneShare_1 : decode cX7_inTuneShare 1 = .ok (.iconst 0, 1) := dk_3 (dk_at dksX7_inTuneShare_0 1 rfl rfl)
theorem dX7_inTuneShare_2 : decode cX7_inTuneShare 2 = .ok (.putfield 72, 3) := dk_181 0 72 (dk_at dksX7_inTuneShare_0 2 rfl rfl)
theorem dX7_inTuneShare_5 : decode cX7_inTuneShare 5 = .ok (.aload_n 0, 1) := dk_42 (dk_at dksX7_inTuneShare_0 5 rfl rfl)
theorem dX7_inTuneShare_6 : decode cX7_inTuneShare 6 = .ok (.invokevirtual 117, 3) := dk_182 0 117 (dk_at dksX7_inTuneShare_0 6 rfl rfl)
theorem dX7_inTuneShare_9 : decode cX7_inTuneShare 9 = .ok (.i2f, 1) := dk_134 (dk_at dksX7_inTuneShare_0 9 rfl rfl)
theorem dX7_inTuneShare_10 : decode cX7_inTuneShare 10 = .ok (.aload_n 0, 1) := dk_42 (dk_at dksX7_inTuneShare_0 10 rfl rfl)
theorem dX7_inTuneShare_11 : decode cX7_inTuneShare 11 = .ok (.getfield 7, 3) := dk_180 0 7 (dk_at dksX7_inTuneShare_0 11 rfl rfl)
theorem dX7_inTuneShare_14 : decode cX7_inTuneShare 14 = .ok (.bipush 13, 2) := dk_16 13 (dk_at dksX7_inTuneShare_0 14 rfl rfl)
theorem dX7_inTuneShare_16 : decode cX7_inTuneShare 16 = .ok (.iaload, 1) := dk_46 (dk_at dksX7_inTuneShare_0 16 rfl rfl)
theorem dX7_inTuneShare_17 : decode cX7_inTuneShare 17 = .ok (.i2f, 1) := dk_134 (dk_at dksX7_inTuneShare_0 17 rfl rfl)
theorem dX7_inTuneShare_18 : decode cX7_inTuneShare 18 = .ok (.fdiv, 1) := dk_110 (dk_at dksX7_inTuneShare_0 18 rfl rfl)
theorem dX7_inTuneShare_19 : decode cX7_inTuneShare 19 = .ok (.freturn, 1) := dk_174 (dk_at dksX7_inTuneShare_0 19 rfl rfl)
abbrev iX7_inTuneShare : xM := (yX7_inTuneShare, cX7_inTuneShare, 1, (some .float), [])
theorem mX7_inTuneShare : xOkM iX7_inTuneShare := ⟨by decide +kernel, by decide, q4166, q175⟩
abbrev cX7_contradictions : ByteArray := prog_15_method_139_code
def yX7_contradictions : MethodName := ⟨RX7, "contradictions", "()I"⟩
def dkwX7_contradictions_4 : List UInt8 := [167, 255, 220, 27, 172]
abbrev dktX7_contradictions_4 : List UInt8 := dkwX7_contradictions_4 ++ []
def dkwX7_contradictions_3 : List UInt8 := [28, 5, 182, 0, 75, 4, 160, 0, 11, 42, 28, 182, 1, 165, 167, 0, 4, 3, 96, 60, 132, 2, 1]
abbrev dktX7_contradictions_3 : List UInt8 := dkwX7_contradictions_3 ++ dktX7_contradictions_4
def dkwX7_contradictions_2 : List UInt8 := [16, 8, 46, 100, 184, 0, 93, 96, 60, 3, 61, 28, 42, 180, 0, 7, 16, 13, 46, 162, 0, 31, 27, 42]
abbrev dktX7_contradictions_2 : List UInt8 := dkwX7_contradictions_2 ++ dktX7_contradictions_3
def dkwX7_contradictions_1 : List UInt8 := [46, 100, 184, 0, 93, 42, 180, 0, 7, 16, 6, 46, 42, 180, 0, 7, 7, 46, 100, 42, 180, 0, 7]
abbrev dktX7_contradictions_1 : List UInt8 := dkwX7_contradictions_1 ++ dktX7_contradictions_2
def dkwX7_contradictions_0 : List UInt8 := [42, 3, 181, 0, 72, 42, 180, 0, 7, 8, 46, 42, 180, 0, 7, 6, 46, 100, 42, 180, 0, 7, 16, 7]
abbrev dktX7_contradictions_0 : List UInt8 := dkwX7_contradictions_0 ++ dktX7_contradictions_1
theorem dksX7_contradictions_0 : cX7_contradictions.data.toList.drop 0 = dktX7_contradictions_0 := by decide +kernel
theorem dksX7_contradictions_1 : cX7_contradictions.data.toList.drop 24 = dktX7_contradictions_1 := dk_seg dksX7_contradictions_0 24 rfl rfl
theorem dksX7_contradictions_2 : cX7_contradictions.data.toList.drop 47 = dktX7_contradictions_2 := dk_seg dksX7_contradictions_1 23 rfl rfl
theorem dksX7_contradictions_3 : cX7_contradictions.data.toList.drop 71 = dktX7_contradictions_3 := dk_seg dksX7_contradictions_2 24 rfl rfl
theorem dksX7_contradictions_4 : cX7_contradictions.data.toList.drop 94 = dktX7_contradictions_4 := dk_seg dksX7_contradictions_3 23 rfl rfl
theorem dX7_contradictions_0 : decode cX7_contradictions 0 = .ok (.aload_n 0, 1) := dk_42 (dk_at dksX7_contradictions_0 0 rfl rfl)
theorem dX7_contradictions_1 : decode cX7_contradictions 1 = .ok (.iconst 0, 1) := dk_3 (dk_at dksX7_contradictions_0 1 rfl rfl)
theorem dX7_contradictions_2 : decode cX7_contradictions 2 = .ok (.putfield 72, 3) := dk_181 0 72 (dk_at dksX7_contradictions_0 2 rfl rfl)
theorem dX7_contradictions_5 : decode cX7_contradictions 5 = .ok (.aload_n 0, 1) := dk_42 (dk_at dksX7_contradictions_0 5 rfl rfl)
theorem dX7_contradictions_6 : decode cX7_contradictions 6 = .ok (.getfield 7, 3) := dk_180 0 7 (dk_at dksX7_contradictions_0 6 rfl rfl)
theorem dX7_contradictions_9 : decode cX7_contradictions 9 = .ok (.iconst 5, 1) := dk_8 (dk_at dksX7_contradictions_0 9 rfl rfl)
theorem dX7_contradictions_10 : decode cX7_contradictions 10 = .ok (.iaload, 1) := dk_46 (dk_at dksX7_contradictions_0 10 rfl rfl)
theorem dX7_contradictions_11 : decode cX7_contradictions 11 = .ok (.aload_n 0, 1) := dk_42 (dk_at dksX7_contradictions_0 11 rfl rfl)
theorem dX7_contradictions_12 : decode cX7_contradictions 12 = .ok (.getfield 7, 3) := dk_180 0 7 (dk_at dksX7_contradictions_0 12 rfl rfl)
theorem dX7_contradictions_15 : decode cX7_contradictions 15 = .ok (.iconst 3, 1) := dk_6 (dk_at dksX7_contradictions_0 15 rfl rfl)
theorem dX7_contradictions_16 : decode cX7_contradictions 16 = .ok (.iaload, 1) := dk_46 (dk_at dksX7_contradictions_0 16 rfl rfl)
theorem dX7_contradictions_17 : decode cX7_contradictions 17 = .ok (.isub, 1) := dk_100 (dk_at dksX7_contradictions_0 17 rfl rfl)
theorem dX7_contradictions_18 : decode cX7_contradictions 18 = .ok (.aload_n 0, 1) := dk_42 (dk_at dksX7_contradictions_0 18 rfl rfl)
theorem dX7_contradictions_19 : decode cX7_contradictions 19 = .ok (.getfield 7, 3) := dk_180 0 7 (dk_at dksX7_contradictions_0 19 rfl rfl)
theorem dX7_contradictions_22 : decode cX7_contradictions 22 = .ok (.bipush 7, 2) := dk_16 7 (dk_at dksX7_contradictions_0 22 rfl rfl)
theorem dX7_contradictions_24 : decode cX7_contradictions 24 = .ok (.iaload, 1) := dk_46 (dk_at dksX7_contradictions_1 0 rfl rfl)
theorem dX7_contradictions_25 : decode cX7_contradictions 25 = .ok (.isub, 1) := dk_100 (dk_at dksX7_contradictions_1 1 rfl rfl)
theorem dX7_contradictions_26 : decode cX7_contradictions 26 = .ok (.invokestatic 93, 3) := dk_184 0 93 (dk_at dksX7_contradictions_1 2 rfl rfl)
theorem dX7_contradictions_29 : decode cX7_contradictions 29 = .ok (.aload_n 0, 1) := dk_42 (dk_at dksX7_contradictions_1 5 rfl rfl)
theorem dX7_contradictions_30 : decode cX7_contradictions 30 = .ok (.getfield 7, 3) := dk_180 0 7 (dk_at dksX7_contradictions_1 6 rfl rfl)
theorem dX7_contradictions_33 : decode cX7_contradictions 33 = .ok (.bipush 6, 2) := dk_16 6 (dk_at dksX7_contradictions_1 9 rfl rfl)
theorem dX7_contradictions_35 : decode cX7_contradictions 35 = .ok (.iaload, 1) := dk_46 (dk_at dksX7_contradictions_1 11 rfl rfl)
theorem dX7_contradictions_36 : decode cX7_contradictions 36 = .ok (.aload_n 0, 1) := dk_42 (dk_at dksX7_contradictions_1 12 rfl rfl)
theorem dX7_contradictions_37 : decode cX7_contradictions 37 = .ok (.getfield 7, 3) := dk_180 0 7 (dk_at dksX7_contradictions_1 13 rfl rfl)
theorem dX7_contradictions_40 : decode cX7_contradictions 40 = .ok (.iconst 4, 1) := dk_7 (dk_at dksX7_contradictions_1 16 rfl rfl)
theorem dX7_contradictions_41 : decode cX7_contradictions 41 = .ok (.iaload, 1) := dk_46 (dk_at dksX7_contradictions_1 17 rfl rfl)
theorem dX7_contradictions_42 : decode cX7_contradictions 42 = .ok (.isub, 1) := dk_100 (dk_at dksX7_contradictions_1 18 rfl rfl)
theorem dX7_contradictions_43 : decode cX7_contradictions 43 = .ok (.aload_n 0, 1) := dk_42 (dk_at dksX7_contradictions_1 19 rfl rfl)
theorem dX7_contradictions_44 : decode cX7_contradictions 44 = .ok (.getfield 7, 3) := dk_180 0 7 (dk_at dksX7_contradictions_1 20 rfl rfl)
theorem dX7_contradictions_47 : decode cX7_contradictions 47 = .ok (.bipush 8, 2) := dk_16 8 (dk_at dksX7_contradictions_2 0 rfl rfl)
theorem dX7_contradictions_49 : decode cX7_contradictions 49 = .ok (.iaload, 1) := dk_46 (dk_at dksX7_contradictions_2 2 rfl rfl)
theorem dX7_contradictions_50 : decode cX7_contradictions 50 = .ok (.isub, 1) := dk_100 (dk_at dksX7_contradictions_2 3 rfl rfl)
theorem dX7_contradictions_51 : decode cX7_contradictions 51 = .ok (.invokestatic 93, 3) := dk_184 0 93 (dk_at dksX7_contradictions_2 4 rfl rfl)
theorem dX7_contradictions_54 : decode cX7_contradictions 54 = .ok (.iadd, 1) := dk_96 (dk_at dksX7_contradictions_2 7 rfl rfl)
theorem dX7_contradictions_55 : decode cX7_contradictions 55 = .ok (.istore_n 1, 1) := dk_60 (dk_at dksX7_contradictions_2 8 rfl rfl)
theorem dX7_contradictions_56 : decode cX7_contradictions 56 = .ok (.iconst 0, 1) := dk_3 (dk_at dksX7_contradictions_2 9 rfl rfl)
theorem dX7_contradictions_57 : decode cX7_contradictions 57 = .ok (.istore_n 2, 1) := dk_61 (dk_at dksX7_contradictions_2 10 rfl rfl)
theorem dX7_contradictions_58 : decode cX7_contradictions 58 = .ok (.iload_n 2, 1) := dk_28 (dk_at dksX7_contradictions_2 11 rfl rfl)
theorem dX7_contradictions_59 : decode cX7_contradictions 59 = .ok (.aload_n 0, 1) := dk_42 (dk_at dksX7_contradictions_2 12 rfl rfl)
theorem dX7_contradictions_60 : decode cX7_contradictions 60 = .ok (.getfield 7, 3) := dk_180 0 7 (dk_at dksX7_contradictions_2 13 rfl rfl)
theorem dX7_contradictions_63 : decode cX7_contradictions 63 = .ok (.bipush 13, 2) := dk_16 13 (dk_at dksX7_contradictions_2 16 rfl rfl)
theorem dX7_contradictions_65 : decode cX7_contradictions 65 = .ok (.iaload, 1) := dk_46 (dk_at dksX7_contradictions_2 18 rfl rfl)
theorem dX7_contradictions_66 : decode cX7_contradictions 66 = .ok (.if_icmp .ge 31, 3) := dk_162 0 31 (dk_at dksX7_contradictions_2 19 rfl rfl)
theorem dX7_contradictions_69 : decode cX7_contradictions 69 = .ok (.iload_n 1, 1) := dk_27 (dk_at dksX7_contradictions_2 22 rfl rfl)
theorem dX7_contradictions_70 : decode cX7_contradictions 70 = .ok (.aload_n 0, 1) := dk_42 (dk_at dksX7_contradictions_2 23 rfl rfl)
theorem dX7_contradictions_71 : decode cX7_contradictions 71 = .ok (.iload_n 2, 1) := dk_28 (dk_at dksX7_contradictions_3 0 rfl rfl)
theorem dX7_contradictions_72 : decode cX7_contradictions 72 = .ok (.iconst 2, 1) := dk_5 (dk_at dksX7_contradictions_3 1 rfl rfl)
theorem dX7_contradictions_73 : decode cX7_contradictions 73 = .ok (.invokevirtual 75, 3) := dk_182 0 75 (dk_at dksX7_contradictions_3 2 rfl rfl)
theorem dX7_contradictions_76 : decode cX7_contradictions 76 = .ok (.iconst 1, 1) := dk_4 (dk_at dksX7_contradictions_3 5 rfl rfl)
theorem dX7_contradictions_77 : decode cX7_contradictions 77 = .ok (.if_icmp .ne 11, 3) := dk_160 0 11 (dk_at dksX7_contradictions_3 6 rfl rfl)
theorem dX7_contradictions_80 : decode cX7_contradictions 80 = .ok (.aload_n 0, 1) := dk_42 (dk_at dksX7_contradictions_3 9 rfl rfl)
theorem dX7_contradictions_81 : decode cX7_contradictions 81 = .ok (.iload_n 2, 1) := dk_28 (dk_at dksX7_contradictions_3 10 rfl rfl)
theorem dX7_contradictions_82 : decode cX7_contradictions 82 = .ok (.invokevirtual 421, 3) := dk_182 1 165 (dk_at dksX7_contradictions_3 11 rfl rfl)
theorem dX7_contradictions_85 : decode cX7_contradictions 85 = .ok (.goto 4, 3) := dk_167 0 4 (dk_at dksX7_contradictions_3 14 rfl rfl)
theorem dX7_contradictions_88 : decode cX7_contradictions 88 = .ok (.iconst 0, 1) := dk_3 (dk_at dksX7_contradictions_3 17 rfl rfl)
theorem dX7_contradictions_89 : decode cX7_contradictions 89 = .ok (.iadd, 1) := dk_96 (dk_at dksX7_contradictions_3 18 rfl rfl)
theorem dX7_contradictions_90 : decode cX7_contradictions 90 = .ok (.istore_n 1, 1) := dk_60 (dk_at dksX7_contradictions_3 19 rfl rfl)
theorem dX7_contradictions_91 : decode cX7_contradictions 91 = .ok (.iinc 2 1, 3) := dk_132 2 1 (dk_at dksX7_contradictions_3 20 rfl rfl)
theorem dX7_contradictions_94 : decode cX7_contradictions 94 = .ok (.goto (-36), 3) := dk_167 255 220 (dk_at dksX7_contradictions_4 0 rfl rfl)
theorem dX7_contradictions_97 : decode cX7_contradictions 97 = .ok (.iload_n 1, 1) := dk_27 (dk_at dksX7_contradictions_4 3 rfl rfl)
theorem dX7_contradictions_98 : decode cX7_contradictions 98 = .ok (.ireturn, 1) := dk_172 (dk_at dksX7_contradictions_4 4 rfl rfl)
abbrev iX7_contradictions : xM := (yX7_contradictions, cX7_contradictions, 3, (some .int), [])
theorem mX7_contradictions : xOkM iX7_contradictions := ⟨by decide +kernel, by decide, q4170, q175⟩
abbrev cX7_wrongOf : ByteArray := prog_15_method_138_code
def yX7_wrongOf : MethodName := ⟨RX7, "wrongOf", "(I)I"⟩
def dkwX7_wrongOf_3 : List UInt8 := [172]
abbrev dktX7_wrongOf_3 : List UInt8 := dkwX7_wrongOf_3 ++ []
def dkwX7_wrongOf_2 : List UInt8 := [182, 0, 75, 104, 164, 0, 7, 4, 167, 0, 4, 3, 184, 0, 110, 96, 61, 132, 3, 1, 167, 255, 215, 28]
abbrev dktX7_wrongOf_2 : List UInt8 := dkwX7_wrongOf_2 ++ dktX7_wrongOf_3
def dkwX7_wrongOf_1 : List UInt8 := [62, 29, 7, 162, 0, 42, 28, 42, 27, 8, 29, 96, 182, 0, 75, 184, 0, 93, 5, 42, 27, 7]
abbrev dktX7_wrongOf_1 : List UInt8 := dkwX7_wrongOf_1 ++ dktX7_wrongOf_2
def dkwX7_wrongOf_0 : List UInt8 := [42, 27, 182, 1, 162, 42, 27, 7, 182, 0, 75, 159, 0, 7, 4, 167, 0, 4, 3, 184, 0, 110, 61, 3]
abbrev dktX7_wrongOf_0 : List UInt8 := dkwX7_wrongOf_0 ++ dktX7_wrongOf_1
theorem dksX7_wrongOf_0 : cX7_wrongOf.data.toList.drop 0 = dktX7_wrongOf_0 := by decide +kernel
theorem dksX7_wrongOf_1 : cX7_wrongOf.data.toList.drop 24 = dktX7_wrongOf_1 := dk_seg dksX7_wrongOf_0 24 rfl rfl
theorem dksX7_wrongOf_2 : cX7_wrongOf.data.toList.drop 46 = dktX7_wrongOf_2 := dk_seg dksX7_wrongOf_1 22 rfl rfl
theorem dksX7_wrongOf_3 : cX7_wrongOf.data.toList.drop 70 = dktX7_wrongOf_3 := dk_seg dksX7_wrongOf_2 24 rfl rfl
theorem dX7_wrongOf_0 : decode cX7_wrongOf 0 = .ok (.aload_n 0, 1) := dk_42 (dk_at dksX7_wrongOf_0 0 rfl rfl)
theorem dX7_wrongOf_1 : decode cX7_wrongOf 1 = .ok (.iload_n 1, 1) := dk_27 (dk_at dksX7_wrongOf_0 1 rfl rfl)
theorem dX7_wrongOf_2 : decode cX7_wrongOf 2 = .ok (.invokevirtual 418, 3) := dk_182 1 162 (dk_at dksX7_wrongOf_0 2 rfl rfl)
theorem dX7_wrongOf_5 : decode cX7_wrongOf 5 = .ok (.aload_n 0, 1) := dk_42 (dk_at dksX7_wrongOf_0 5 rfl rfl)
theorem dX7_wrongOf_6 : decode cX7_wrongOf 6 = .ok (.iload_n 1, 1) := dk_27 (dk_at dksX7_wrongOf_0 6 rfl rfl)
theorem dX7_wrongOf_7 : decode cX7_wrongOf 7 = .ok (.iconst 4, 1) := dk_7 (dk_at dksX7_wrongOf_0 7 rfl rfl)
theorem dX7_wrongOf_8 : decode cX7_wrongOf 8 = .ok (.invokevirtual 75, 3) := dk_182 0 75 (dk_at dksX7_wrongOf_0 8 rfl rfl)
theorem dX7_wrongOf_11 : decode cX7_wrongOf 11 = .ok (.if_icmp .eq 7, 3) := dk_159 0 7 (dk_at dksX7_wrongOf_0 11 rfl rfl)
theorem dX7_wrongOf_14 : decode cX7_wrongOf 14 = .ok (.iconst 1, 1) := dk_4 (dk_at dksX7_wrongOf_0 14 rfl rfl)
theorem dX7_wrongOf_15 : decode cX7_wrongOf 15 = .ok (.goto 4, 3) := dk_167 0 4 (dk_at dksX7_wrongOf_0 15 rfl rfl)
theorem dX7_wrongOf_18 : decode cX7_wrongOf 18 = .ok (.iconst 0, 1) := dk_3 (dk_at dksX7_wrongOf_0 18 rfl rfl)
theorem dX7_wrongOf_19 : decode cX7_wrongOf 19 = .ok (.invokestatic 110, 3) := dk_184 0 110 (dk_at dksX7_wrongOf_0 19 rfl rfl)
theorem dX7_wrongOf_22 : decode cX7_wrongOf 22 = .ok (.istore_n 2, 1) := dk_61 (dk_at dksX7_wrongOf_0 22 rfl rfl)
theorem dX7_wrongOf_23 : decode cX7_wrongOf 23 = .ok (.iconst 0, 1) := dk_3 (dk_at dksX7_wrongOf_0 23 rfl rfl)
theorem dX7_wrongOf_24 : decode cX7_wrongOf 24 = .ok (.istore_n 3, 1) := dk_62 (dk_at dksX7_wrongOf_1 0 rfl rfl)
theorem dX7_wrongOf_25 : decode cX7_wrongOf 25 = .ok (.iload_n 3, 1) := dk_29 (dk_at dksX7_wrongOf_1 1 rfl rfl)
theorem dX7_wrongOf_26 : decode cX7_wrongOf 26 = .ok (.iconst 4, 1) := dk_7 (dk_at dksX7_wrongOf_1 2 rfl rfl)
theorem dX7_wrongOf_27 : decode cX7_wrongOf 27 = .ok (.if_icmp .ge 42, 3) := dk_162 0 42 (dk_at dksX7_wrongOf_1 3 rfl rfl)
theorem dX7_wrongOf_30 : decode cX7_wrongOf 30 = .ok (.iload_n 2, 1) := dk_28 (dk_at dksX7_wrongOf_1 6 rfl rfl)
theorem dX7_wrongOf_31 : decode cX7_wrongOf 31 = .ok (.aload_n 0, 1) := dk_42 (dk_at dksX7_wrongOf_1 7 rfl rfl)
theorem dX7_wrongOf_32 : decode cX7_wrongOf 32 = .ok (.iload_n 1, 1) := dk_27 (dk_at dksX7_wrongOf_1 8 rfl rfl)
theorem dX7_wrongOf_33 : decode cX7_wrongOf 33 = .ok (.iconst 5, 1) := dk_8 (dk_at dksX7_wrongOf_1 9 rfl rfl)
theorem dX7_wrongOf_34 : decode cX7_wrongOf 34 = .ok (.iload_n 3, 1) := dk_29 (dk_at dksX7_wrongOf_1 10 rfl rfl)
theorem dX7_wrongOf_35 : decode cX7_wrongOf 35 = .ok (.iadd, 1) := dk_96 (dk_at dksX7_wrongOf_1 11 rfl rfl)
theorem dX7_wrongOf_36 : decode cX7_wrongOf 36 = .ok (.invokevirtual 75, 3) := dk_182 0 75 (dk_at dksX7_wrongOf_1 12 rfl rfl)
theorem dX7_wrongOf_39 : decode cX7_wrongOf 39 = .ok (.invokestatic 93, 3) := dk_184 0 93 (dk_at dksX7_wrongOf_1 15 rfl rfl)
theorem dX7_wrongOf_42 : decode cX7_wrongOf 42 = .ok (.iconst 2, 1) := dk_5 (dk_at dksX7_wrongOf_1 18 rfl rfl)
theorem dX7_wrongOf_43 : decode cX7_wrongOf 43 = .ok (.aload_n 0, 1) := dk_42 (dk_at dksX7_wrongOf_1 19 rfl rfl)
theorem dX7_wrongOf_44 : decode cX7_wrongOf 44 = .ok (.iload_n 1, 1) := dk_27 (dk_at dksX7_wrongOf_1 20 rfl rfl)
theorem dX7_wrongOf_45 : decode cX7_wrongOf 45 = .ok (.iconst 4, 1) := dk_7 (dk_at dksX7_wrongOf_1 21 rfl rfl)
theorem dX7_wrongOf_46 : decode cX7_wrongOf 46 = .ok (.invokevirtual 75, 3) := dk_182 0 75 (dk_at dksX7_wrongOf_2 0 rfl rfl)
theorem dX7_wrongOf_49 : decode cX7_wrongOf 49 = .ok (.imul, 1) := dk_104 (dk_at dksX7_wrongOf_2 3 rfl rfl)
theorem dX7_wrongOf_50 : decode cX7_wrongOf 50 = .ok (.if_icmp .le 7, 3) := dk_164 0 7 (dk_at dksX7_wrongOf_2 4 rfl rfl)
theorem dX7_wrongOf_53 : decode cX7_wrongOf 53 = .ok (.iconst 1, 1) := dk_4 (dk_at dksX7_wrongOf_2 7 rfl rfl)
theorem dX7_wrongOf_54 : decode cX7_wrongOf 54 = .ok (.goto 4, 3) := dk_167 0 4 (dk_at dksX7_wrongOf_2 8 rfl rfl)
theorem dX7_wrongOf_57 : decode cX7_wrongOf 57 = .ok (.iconst 0, 1) := dk_3 (dk_at dksX7_wrongOf_2 11 rfl rfl)
theorem dX7_wrongOf_58 : decode cX7_wrongOf 58 = .ok (.invokestatic 110, 3) := dk_184 0 110 (dk_at dksX7_wrongOf_2 12 rfl rfl)
theorem dX7_wrongOf_61 : decode cX7_wrongOf 61 = .ok (.iadd, 1) := dk_96 (dk_at dksX7_wrongOf_2 15 rfl rfl)
theorem dX7_wrongOf_62 : decode cX7_wrongOf 62 = .ok (.istore_n 2, 1) := dk_61 (dk_at dksX7_wrongOf_2 16 rfl rfl)
theorem dX7_wrongOf_63 : decode cX7_wrongOf 63 = .ok (.iinc 3 1, 3) := dk_132 3 1 (dk_at dksX7_wrongOf_2 17 rfl rfl)
theorem dX7_wrongOf_66 : decode cX7_wrongOf 66 = .ok (.goto (-41), 3) := dk_167 255 215 (dk_at dksX7_wrongOf_2 20 rfl rfl)
theorem dX7_wrongOf_69 : decode cX7_wrongOf 69 = .ok (.iload_n 2, 1) := dk_28 (dk_at dksX7_wrongOf_2 23 rfl rfl)
theorem dX7_wrongOf_70 : decode cX7_wrongOf 70 = .ok (.ireturn, 1) := dk_172 (dk_at dksX7_wrongOf_3 0 rfl rfl)
abbrev iX7_wrongOf : xM := (yX7_wrongOf, cX7_wrongOf, 4, (some .int), [])
theorem mX7_wrongOf : xOkM iX7_wrongOf := ⟨by decide +kernel, by decide, q4174, q175⟩
abbrev cX7_links : ByteArray := prog_15_method_137_code
def yX7_links : MethodName := ⟨RX7, "links", "(I)I"⟩
def dkwX7_links_1 : List UInt8 := [6, 182, 0, 75, 62, 167, 255, 236, 28, 172]
abbrev dktX7_links_1 : List UInt8 := dkwX7_links_1 ++ []
def dkwX7_links_0 : List UInt8 := [4, 61, 42, 27, 6, 182, 0, 75, 62, 29, 155, 0, 22, 28, 16, 20, 162, 0, 16, 132, 2, 1, 42, 29]
abbrev dktX7_links_0 : List UInt8 := dkwX7_links_0 ++ dktX7_links_1
theorem dksX7_links_0 : cX7_links.data.toList.drop 0 = dktX7_links_0 := by decide +kernel
theorem dksX7_links_1 : cX7_links.data.toList.drop 24 = dktX7_links_1 := dk_seg dksX7_links_0 24 rfl rfl
theorem dX7_links_0 : decode cX7_links 0 = .ok (.iconst 1, 1) := dk_4 (dk_at dksX7_links_0 0 rfl rfl)
theorem dX7_links_1 : decode cX7_links 1 = .ok (.istore_n 2, 1) := dk_61 (dk_at dksX7_links_0 1 rfl rfl)
theorem dX7_links_2 : decode cX7_links 2 = .ok (.aload_n 0, 1) := dk_42 (dk_at dksX7_links_0 2 rfl rfl)
theorem dX7_links_3 : decode cX7_links 3 = .ok (.iload_n 1, 1) := dk_27 (dk_at dksX7_links_0 3 rfl rfl)
theorem dX7_links_4 : decode cX7_links 4 = .ok (.iconst 3, 1) := dk_6 (dk_at dksX7_links_0 4 rfl rfl)
theorem dX7_links_5 : decode cX7_links 5 = .ok (.invokevirtual 75, 3) := dk_182 0 75 (dk_at dksX7_links_0 5 rfl rfl)
theorem dX7_links_8 : decode cX7_links 8 = .ok (.istore_n 3, 1) := dk_62 (dk_at dksX7_links_0 8 rfl rfl)
theorem dX7_links_9 : decode cX7_links 9 = .ok (.iload_n 3, 1) := dk_29 (dk_at dksX7_links_0 9 rfl rfl)
theorem dX7_links_10 : decode cX7_links 10 = .ok (.ifCond .lt 22, 3) := dk_155 0 22 (dk_at dksX7_links_0 10 rfl rfl)
theorem dX7_links_13 : decode cX7_links 13 = .ok (.iload_n 2, 1) := dk_28 (dk_at dksX7_links_0 13 rfl rfl)
theorem dX7_links_14 : decode cX7_links 14 = .ok (.bipush 20, 2) := dk_16 20 (dk_at dksX7_links_0 14 rfl rfl)
theorem dX7_links_16 : decode cX7_links 16 = .ok (.if_icmp .ge 16, 3) := dk_162 0 16 (dk_at dksX7_links_0 16 rfl rfl)
theorem dX7_links_19 : decode cX7_links 19 = .ok (.iinc 2 1, 3) := dk_132 2 1 (dk_at dksX7_links_0 19 rfl rfl)
theorem dX7_links_22 : decode cX7_links 22 = .ok (.aload_n 0, 1) := dk_42 (dk_at dksX7_links_0 22 rfl rfl)
theorem dX7_links_23 : decode cX7_links 23 = .ok (.iload_n 3, 1) := dk_29 (dk_at dksX7_links_0 23 rfl rfl)
theorem dX7_links_24 : decode cX7_links 24 = .ok (.iconst 3, 1) := dk_6 (dk_at dksX7_links_1 0 rfl rfl)
theorem dX7_links_25 : decode cX7_links 25 = .ok (.invokevirtual 75, 3) := dk_182 0 75 (dk_at dksX7_links_1 1 rfl rfl)
theorem dX7_links_28 : decode cX7_links 28 = .ok (.istore_n 3, 1) := dk_62 (dk_at dksX7_links_1 4 rfl rfl)
theorem dX7_links_29 : decode cX7_links 29 = .ok (.goto (-20), 3) := dk_167 255 236 (dk_at dksX7_links_1 5 rfl rfl)
theorem dX7_links_32 : decode cX7_links 32 = .ok (.iload_n 2, 1) := dk_28 (dk_at dksX7_links_1 8 rfl rfl)
theorem dX7_links_33 : decode cX7_links 33 = .ok (.ireturn, 1) := dk_172 (dk_at dksX7_links_1 9 rfl rfl)
abbrev iX7_links : xM := (yX7_links, cX7_links, 4, (some .int), [])
theorem mX7_links : xOkM iX7_links := ⟨by decide +kernel, by decide, q4178, q175⟩
abbrev cX7_deviationAfter : ByteArray := prog_15_method_141_code
def yX7_deviationAfter : MethodName := ⟨RX7, "deviationAfter", "(III)I"⟩
def dkwX7_deviationAfter_2 : List UInt8 := [182, 0, 136, 153, 0, 5, 3, 172, 42, 27, 16, 9, 28, 96, 184, 0, 65, 29, 182, 1, 170, 172]
abbrev dktX7_deviationAfter_2 : List UInt8 := dkwX7_deviationAfter_2 ++ []
def dkwX7_deviationAfter_1 : List UInt8 := [154, 0, 7, 4, 167, 0, 4, 3, 5, 182, 0, 136, 154, 0, 17, 42, 42, 27, 28, 182, 0, 85, 6]
abbrev dktX7_deviationAfter_1 : List UInt8 := dkwX7_deviationAfter_1 ++ dktX7_deviationAfter_2
def dkwX7_deviationAfter_0 : List UInt8 := [42, 3, 181, 0, 72, 42, 27, 28, 182, 1, 132, 154, 0, 42, 42, 29, 133, 9, 20, 1, 168, 184, 0, 144]
abbrev dktX7_deviationAfter_0 : List UInt8 := dkwX7_deviationAfter_0 ++ dktX7_deviationAfter_1
theorem dksX7_deviationAfter_0 : cX7_deviationAfter.data.toList.drop 0 = dktX7_deviationAfter_0 := by decide +kernel
theorem dksX7_deviationAfter_1 : cX7_deviationAfter.data.toList.drop 24 = dktX7_deviationAfter_1 := dk_seg dksX7_deviationAfter_0 24 rfl rfl
theorem dksX7_deviationAfter_2 : cX7_deviationAfter.data.toList.drop 47 = dktX7_deviationAfter_2 := dk_seg dksX7_deviationAfter_1 23 rfl rfl
theorem dX7_deviationAfter_0 : decode cX7_deviationAfter 0 = .ok (.aload_n 0, 1) := dk_42 (dk_at dksX7_deviationAfter_0 0 rfl rfl)
theorem dX7_deviationAfter_1 : decode cX7_deviationAfter 1 = .ok (.iconst 0, 1) := dk_3 (dk_at dksX7_deviationAfter_0 1 rfl rfl)
theorem dX7_deviationAfter_2 : decode cX7_deviationAfter 2 = .ok (.putfield 72, 3) := dk_181 0 72 (dk_at dksX7_deviationAfter_0 2 rfl rfl)
theorem dX7_deviationAfter_5 : decode cX7_deviationAfter 5 = .ok (.aload_n 0, 1) := dk_42 (dk_at dksX7_deviationAfter_0 5 rfl rfl)
theorem dX7_deviationAfter_6 : decode cX7_deviationAfter 6 = .ok (.iload_n 1, 1) := dk_27 (dk_at dksX7_deviationAfter_0 6 rfl rfl)
theorem dX7_deviationAfter_7 : decode cX7_deviationAfter 7 = .ok (.iload_n 2, 1) := dk_28 (dk_at dksX7_deviationAfter_0 7 rfl rfl)
theorem dX7_deviationAfter_8 : decode cX7_deviationAfter 8 = .ok (.invokevirtual 388, 3) := dk_182 1 132 (dk_at dksX7_deviationAfter_0 8 rfl rfl)
theorem dX7_deviationAfter_11 : decode cX7_deviationAfter 11 = .ok (.ifCond .ne 42, 3) := dk_154 0 42 (dk_at dksX7_deviationAfter_0 11 rfl rfl)
theorem dX7_deviationAfter_14 : decode cX7_deviationAfter 14 = .ok (.aload_n 0, 1) := dk_42 (dk_at dksX7_deviationAfter_0 14 rfl rfl)
theorem dX7_deviationAfter_15 : decode cX7_deviationAfter 15 = .ok (.iload_n 3, 1) := dk_29 (dk_at dksX7_deviationAfter_0 15 rfl rfl)
theorem dX7_deviationAfter_16 : decode cX7_deviationAfter 16 = .ok (.i2l, 1) := dk_133 (dk_at dksX7_deviationAfter_0 16 rfl rfl)
theorem dX7_deviationAfter_17 : decode cX7_deviationAfter 17 = .ok (.lconst 0, 1) := dk_9 (dk_at dksX7_deviationAfter_0 17 rfl rfl)
theorem dX7_deviationAfter_18 : decode cX7_deviationAfter 18 = .ok (.ldc2_w 424, 3) := dk_20 1 168 (dk_at dksX7_deviationAfter_0 18 rfl rfl)
theorem dX7_deviationAfter_21 : decode cX7_deviationAfter 21 = .ok (.invokestatic 144, 3) := dk_184 0 144 (dk_at dksX7_deviationAfter_0 21 rfl rfl)
theorem dX7_deviationAfter_24 : decode cX7_deviationAfter 24 = .ok (.ifCond .ne 7, 3) := dk_154 0 7 (dk_at dksX7_deviationAfter_1 0 rfl rfl)
theorem dX7_deviationAfter_27 : decode cX7_deviationAfter 27 = .ok (.iconst 1, 1) := dk_4 (dk_at dksX7_deviationAfter_1 3 rfl rfl)
theorem dX7_deviationAfter_28 : decode cX7_deviationAfter 28 = .ok (.goto 4, 3) := dk_167 0 4 (dk_at dksX7_deviationAfter_1 4 rfl rfl)
theorem dX7_deviationAfter_31 : decode cX7_deviationAfter 31 = .ok (.iconst 0, 1) := dk_3 (dk_at dksX7_deviationAfter_1 7 rfl rfl)
theorem dX7_deviationAfter_32 : decode cX7_deviationAfter 32 = .ok (.iconst 2, 1) := dk_5 (dk_at dksX7_deviationAfter_1 8 rfl rfl)
theorem dX7_deviationAfter_33 : decode cX7_deviationAfter 33 = .ok (.invokevirtual 136, 3) := dk_182 0 136 (dk_at dksX7_deviationAfter_1 9 rfl rfl)
theorem dX7_deviationAfter_36 : decode cX7_deviationAfter 36 = .ok (.ifCond .ne 17, 3) := dk_154 0 17 (dk_at dksX7_deviationAfter_1 12 rfl rfl)
theorem dX7_deviationAfter_39 : decode cX7_deviationAfter 39 = .ok (.aload_n 0, 1) := dk_42 (dk_at dksX7_deviationAfter_1 15 rfl rfl)
theorem dX7_deviationAfter_40 : decode cX7_deviationAfter 40 = .ok (.aload_n 0, 1) := dk_42 (dk_at dksX7_deviationAfter_1 16 rfl rfl)
theorem dX7_deviationAfter_41 : decode cX7_deviationAfter 41 = .ok (.iload_n 1, 1) := dk_27 (dk_at dksX7_deviationAfter_1 17 rfl rfl)
theorem dX7_deviationAfter_42 : decode cX7_deviationAfter 42 = .ok (.iload_n 2, 1) := dk_28 (dk_at dksX7_deviationAfter_1 18 rfl rfl)
theorem dX7_deviationAfter_43 : decode cX7_deviationAfter 43 = .ok (.invokevirtual 85, 3) := dk_182 0 85 (dk_at dksX7_deviationAfter_1 19 rfl rfl)
theorem dX7_deviationAfter_46 : decode cX7_deviationAfter 46 = .ok (.iconst 3, 1) := dk_6 (dk_at dksX7_deviationAfter_1 22 rfl rfl)
theorem dX7_deviationAfter_47 : decode cX7_deviationAfter 47 = .ok (.invokevirtual 136, 3) := dk_182 0 136 (dk_at dksX7_deviationAfter_2 0 rfl rfl)
theorem dX7_deviationAfter_50 : decode cX7_deviationAfter 50 = .ok (.ifCond .eq 5, 3) := dk_153 0 5 (dk_at dksX7_deviationAfter_2 3 rfl rfl)
theorem dX7_deviationAfter_53 : decode cX7_deviationAfter 53 = .ok (.iconst 0, 1) := dk_3 (dk_at dksX7_deviationAfter_2 6 rfl rfl)
theorem dX7_deviationAfter_54 : decode cX7_deviationAfter 54 = .ok (.ireturn, 1) := dk_172 (dk_at dksX7_deviationAfter_2 7 rfl rfl)
theorem dX7_deviationAfter_55 : decode cX7_deviationAfter 55 = .ok (.aload_n 0, 1) := dk_42 (dk_at dksX7_deviationAfter_2 8 rfl rfl)
theorem dX7_deviationAfter_56 : decode cX7_deviationAfter 56 = .ok (.iload_n 1, 1) := dk_27 (dk_at dksX7_deviationAfter_2 9 rfl rfl)
theorem dX7_deviationAfter_57 : decode cX7_deviationAfter 57 = .ok (.bipush 9, 2) := dk_16 9 (dk_at dksX7_deviationAfter_2 10 rfl rfl)
theorem dX7_deviationAfter_59 : decode cX7_deviationAfter 59 = .ok (.iload_n 2, 1) := dk_28 (dk_at dksX7_deviationAfter_2 12 rfl rfl)
theorem dX7_deviationAfter_60 : decode cX7_deviationAfter 60 = .ok (.iadd, 1) := dk_96 (dk_at dksX7_deviationAfter_2 13 rfl rfl)
theorem dX7_deviationAfter_61 : decode cX7_deviationAfter 61 = .ok (.invokestatic 65, 3) := dk_184 0 65 (dk_at dksX7_deviationAfter_2 14 rfl rfl)
theorem dX7_deviationAfter_64 : decode cX7_deviationAfter 64 = .ok (.iload_n 3, 1) := dk_29 (dk_at dksX7_deviationAfter_2 17 rfl rfl)
theorem dX7_deviationAfter_65 : decode cX7_deviationAfter 65 = .ok (.invokevirtual 426, 3) := dk_182 1 170 (dk_at dksX7_deviationAfter_2 18 rfl rfl)
theorem dX7_deviationAfter_68 : decode cX7_deviationAfter 68 = .ok (.ireturn, 1) := dk_172 (dk_at dksX7_deviationAfter_2 21 rfl rfl)
abbrev iX7_deviationAfter : xM := (yX7_deviationAfter, cX7_deviationAfter, 4, (some .int), [])
theorem mX7_deviationAfter : xOkM iX7_deviationAfter := ⟨by decide +kernel, by decide, q4182, q175⟩
abbrev cX7_behindHours : ByteArray := prog_15_method_140_code
def yX7_behindHours : MethodName := ⟨RX7, "behindHours", "(II)I"⟩
def dkwX7_behindHours_1 : List UInt8 := [46, 54, 4, 42, 180, 0, 13, 3, 42, 180, 0, 7, 3, 184, 0, 246, 21, 4, 172]
abbrev dktX7_behindHours_1 : List UInt8 := dkwX7_behindHours_1 ++ []
def dkwX7_behindHours_0 : List UInt8 := [42, 180, 0, 7, 3, 42, 180, 0, 13, 3, 184, 0, 246, 42, 28, 182, 1, 86, 62, 42, 180, 0, 7, 27]
abbrev dktX7_behindHours_0 : List UInt8 := dkwX7_behindHours_0 ++ dktX7_behindHours_1
theorem dksX7_behindHours_0 : cX7_behindHours.data.toList.drop 0 = dktX7_behindHours_0 := by decide +kernel
theorem dksX7_behindHours_1 : cX7_behindHours.data.toList.drop 24 = dktX7_behindHours_1 := dk_seg dksX7_behindHours_0 24 rfl rfl
theorem dX7_behindHours_0 : decode cX7_behindHours 0 = .ok (.aload_n 0, 1) := dk_42 (dk_at dksX7_behindHours_0 0 rfl rfl)
theorem dX7_behindHours_1 : decode cX7_behindHours 1 = .ok (.getfield 7, 3) := dk_180 0 7 (dk_at dksX7_behindHours_0 1 rfl rfl)
theorem dX7_behindHours_4 : decode cX7_behindHours 4 = .ok (.iconst 0, 1) := dk_3 (dk_at dksX7_behindHours_0 4 rfl rfl)
theorem dX7_behindHours_5 : decode cX7_behindHours 5 = .ok (.aload_n 0, 1) := dk_42 (dk_at dksX7_behindHours_0 5 rfl rfl)
theorem dX7_behindHours_6 : decode cX7_behindHours 6 = .ok (.getfield 13, 3) := dk_180 0 13 (dk_at dksX7_behindHours_0 6 rfl rfl)
theorem dX7_behindHours_9 : decode cX7_behindHours 9 = .ok (.iconst 0, 1) := dk_3 (dk_at dksX7_behindHours_0 9 rfl rfl)
theorem dX7_behindHours_10 : decode cX7_behindHours 10 = .ok (.invokestatic 246, 3) := dk_184 0 246 (dk_at dksX7_behindHours_0 10 rfl rfl)
theorem dX7_behindHours_13 : decode cX7_behindHours 13 = .ok (.aload_n 0, 1) := dk_42 (dk_at dksX7_behindHours_0 13 rfl rfl)
theorem dX7_behindHours_14 : decode cX7_behindHours 14 = .ok (.iload_n 2, 1) := dk_28 (dk_at dksX7_behindHours_0 14 rfl rfl)
theorem dX7_behindHours_15 : decode cX7_behindHours 15 = .ok (.invokevirtual 342, 3) := dk_182 1 86 (dk_at dksX7_behindHours_0 15 rfl rfl)
theorem dX7_behindHours_18 : decode cX7_behindHours 18 = .ok (.istore_n 3, 1) := dk_62 (dk_at dksX7_behindHours_0 18 rfl rfl)
theorem dX7_behindHours_19 : decode cX7_behindHours 19 = .ok (.aload_n 0, 1) := dk_42 (dk_at dksX7_behindHours_0 19 rfl rfl)
theorem dX7_behindHours_20 : decode cX7_behindHours 20 = .ok (.getfield 7, 3) := dk_180 0 7 (dk_at dksX7_behindHours_0 20 rfl rfl)
theorem dX7_behindHours_23 : decode cX7_behindHours 23 = .ok (.iload_n 1, 1) := dk_27 (dk_at dksX7_behindHours_0 23 rfl rfl)
theorem dX7_behindHours_24 : decode cX7_behindHours 24 = .ok (.iaload, 1) := dk_46 (dk_at dksX7_behindHours_1 0 rfl rfl)
theorem dX7_behindHours_25 : decode cX7_behindHours 25 = .ok (.istore 4, 2) := dk_54 4 (dk_at dksX7_behindHours_1 1 rfl rfl)
theorem dX7_behindHours_27 : decode cX7_behindHours 27 = .ok (.aload_n 0, 1) := dk_42 (dk_at dksX7_behindHours_1 3 rfl rfl)
theorem dX7_behindHours_28 : decode cX7_behindHours 28 = .ok (.getfield 13, 3) := dk_180 0 13 (dk_at dksX7_behindHours_1 4 rfl rfl)
theorem dX7_behindHours_31 : decode cX7_behindHours 31 = .ok (.iconst 0, 1) := dk_3 (dk_at dksX7_behindHours_1 7 rfl rfl)
theorem dX7_behindHours_32 : decode cX7_behindHours 32 = .ok (.aload_n 0, 1) := dk_42 (dk_at dksX7_behindHours_1 8 rfl rfl)
theorem dX7_behindHours_33 : decode cX7_behindHours 33 = .ok (.getfield 7, 3) := dk_180 0 7 (dk_at dksX7_behindHours_1 9 rfl rfl)
theorem dX7_behindHours_36 : decode cX7_behindHours 36 = .ok (.iconst 0, 1) := dk_3 (dk_at dksX7_behindHours_1 12 rfl rfl)
theorem dX7_behindHours_37 : decode cX7_behindHours 37 = .ok (.invokestatic 246, 3) := dk_184 0 246 (dk_at dksX7_behindHours_1 13 rfl rfl)
theorem dX7_behindHours_40 : decode cX7_behindHours 40 = .ok (.iload 4, 2) := dk_21 4 (dk_at dksX7_behindHours_1 16 rfl rfl)
theorem dX7_behindHours_42 : decode cX7_behindHours 42 = .ok (.ireturn, 1) := dk_172 (dk_at dksX7_behindHours_1 18 rfl rfl)
abbrev iX7_behindHours : xM := (yX7_behindHours, cX7_behindHours, 5, (some .int), [])
theorem mX7_behindHours : xOkM iX7_behindHours := ⟨by decide +kernel, by decide, q4187, q175⟩
abbrev cX7_temperatureAfter : ByteArray := prog_15_method_142_code
def yX7_temperatureAfter : MethodName := ⟨RX7, "temperatureAfter", "(I)I"⟩
def dkwX7_temperatureAfter_1 : List UInt8 := [182, 0, 136, 153, 0, 7, 3, 167, 0, 9, 42, 4, 27, 182, 1, 170, 172]
abbrev dktX7_temperatureAfter_1 : List UInt8 := dkwX7_temperatureAfter_1 ++ []
def dkwX7_temperatureAfter_0 : List UInt8 := [42, 3, 181, 0, 72, 42, 27, 133, 9, 20, 1, 168, 184, 0, 144, 154, 0, 7, 4, 167, 0, 4, 3, 4]
abbrev dktX7_temperatureAfter_0 : List UInt8 := dkwX7_temperatureAfter_0 ++ dktX7_temperatureAfter_1
theorem dksX7_temperatureAfter_0 : cX7_temperatureAfter.data.toList.drop 0 = dktX7_temperatureAfter_0 := by decide +kernel
theorem dksX7_temperatureAfter_1 : cX7_temperatureAfter.data.toList.drop 24 = dktX7_temperatureAfter_1 := dk_seg dksX7_temperatureAfter_0 24 rfl rfl
theorem dX7_temperatureAfter_0 : decode cX7_temperatureAfter 0 = .ok (.aload_n 0, 1) := dk_42 (dk_at dksX7_temperatureAfter_0 0 rfl rfl)
theorem dX7_temperatureAfter_1 : decode cX7_temperatureAfter 1 = .ok (.iconst 0, 1) := dk_3 (dk_at dksX7_temperatureAfter_0 1 rfl rfl)
theorem dX7_temperatureAfter_2 : decode cX7_temperatureAfter 2 = .ok (.putfield 72, 3) := dk_181 0 72 (dk_at dksX7_temperatureAfter_0 2 rfl rfl)
theorem dX7_temperatureAfter_5 : decode cX7_temperatureAfter 5 = .ok (.aload_n 0, 1) := dk_42 (dk_at dksX7_temperatureAfter_0 5 rfl rfl)
theorem dX7_temperatureAfter_6 : decode cX7_temperatureAfter 6 = .ok (.iload_n 1, 1) := dk_27 (dk_at dksX7_temperatureAfter_0 6 rfl rfl)
theorem dX7_temperatureAfter_7 : decode cX7_temperatureAfter 7 = .ok (.i2l, 1) := dk_133 (dk_at dksX7_temperatureAfter_0 7 rfl rfl)
theorem dX7_temperatureAfter_8 : decode cX7_temperatureAfter 8 = .ok (.lconst 0, 1) := dk_9 (dk_at dksX7_temperatureAfter_0 8 rfl rfl)
theorem dX7_temperatureAfter_9 : decode cX7_temperatureAfter 9 = .ok (.ldc2_w 424, 3) := dk_20 1 168 (dk_at dksX7_temperatureAfter_0 9 rfl rfl)
theorem dX7_temperatureAfter_12 : decode cX7_temperatureAfter 12 = .ok (.invokestatic 144, 3) := dk_184 0 144 (dk_at dksX7_temperatureAfter_0 12 rfl rfl)
theorem dX7_temperatureAfter_15 : decode cX7_temperatureAfter 15 = .ok (.ifCond .ne 7, 3) := dk_154 0 7 (dk_at dksX7_temperatureAfter_0 15 rfl rfl)
theorem dX7_temperatureAfter_18 : decode cX7_temperatureAfter 18 = .ok (.iconst 1, 1) := dk_4 (dk_at dksX7_temperatureAfter_0 18 rfl rfl)
theorem dX7_temperatureAfter_19 : decode cX7_temperatureAfter 19 = .ok (.goto 4, 3) := dk_167 0 4 (dk_at dksX7_temperatureAfter_0 19 rfl rfl)
theorem dX7_temperatureAfter_22 : decode cX7_temperatureAfter 22 = .ok (.iconst 0, 1) := dk_3 (dk_at dksX7_temperatureAfter_0 22 rfl rfl)
theorem dX7_temperatureAfter_23 : decode cX7_temperatureAfter 23 = .ok (.iconst 1, 1) := dk_4 (dk_at dksX7_temperatureAfter_0 23 rfl rfl)
theorem dX7_temperatureAfter_24 : decode cX7_temperatureAfter 24 = .ok (.invokevirtual 136, 3) := dk_182 0 136 (dk_at dksX7_temperatureAfter_1 0 rfl rfl)
theorem dX7_temperatureAfter_27 : decode cX7_temperatureAfter 27 = .ok (.ifCond .eq 7, 3) := dk_153 0 7 (dk_at dksX7_temperatureAfter_1 3 rfl rfl)
theorem dX7_temperatureAfter_30 : decode cX7_temperatureAfter 30 = .ok (.iconst 0, 1) := dk_3 (dk_at dksX7_temperatureAfter_1 6 rfl rfl)
theorem dX7_temperatureAfter_31 : decode cX7_temperatureAfter 31 = .ok (.goto 9, 3) := dk_167 0 9 (dk_at dksX7_temperatureAfter_1 7 rfl rfl)
theorem dX7_temperatureAfter_34 : decode cX7_temperatureAfter 34 = .ok (.aload_n 0, 1) := dk_42 (dk_at dksX7_temperatureAfter_1 10 rfl rfl)
theorem dX7_temperatureAfter_35 : decode cX7_temperatureAfter 35 = .ok (.iconst 1, 1) := dk_4 (dk_at dksX7_temperatureAfter_1 11 rfl rfl)
theorem dX7_temperatureAfter_36 : decode cX7_temperatureAfter 36 = .ok (.iload_n 1, 1) := dk_27 (dk_at dksX7_temperatureAfter_1 12 rfl rfl)
theorem dX7_temperatureAfter_37 : decode cX7_temperatureAfter 37 = .ok (.invokevirtual 426, 3) := dk_182 1 170 (dk_at dksX7_temperatureAfter_1 13 rfl rfl)
theorem dX7_temperatureAfter_40 : decode cX7_temperatureAfter 40 = .ok (.ireturn, 1) := dk_172 (dk_at dksX7_temperatureAfter_1 16 rfl rfl)
abbrev iX7_temperatureAfter : xM := (yX7_temperatureAfter, cX7_temperatureAfter, 2, (some .int), [])
theorem mX7_temperatureAfter : xOkM iX7_temperatureAfter := ⟨by decide +kernel, by decide, q4191, q175⟩
abbrev cX7_hoursUntilOff : ByteArray := prog_15_method_143_code
def yX7_hoursUntilOff : MethodName := ⟨RX7, "hoursUntilOff", "(I)I"⟩
def dkwX7_hoursUntilOff_3 : List UInt8 := [17, 0, 200, 164, 0, 7, 2, 167, 0, 4, 28, 172]
abbrev dktX7_hoursUntilOff_3 : List UInt8 := dkwX7_hoursUntilOff_3 ++ []
def dkwX7_hoursUntilOff_2 : List UInt8 := [182, 0, 124, 132, 2, 1, 167, 255, 233, 42, 180, 0, 13, 3, 42, 180, 0, 7, 3, 184, 0, 246, 28]
abbrev dktX7_hoursUntilOff_2 : List UInt8 := dkwX7_hoursUntilOff_2 ++ dktX7_hoursUntilOff_3
def dkwX7_hoursUntilOff_1 : List UInt8 := [3, 184, 0, 246, 3, 61, 28, 17, 0, 200, 163, 0, 22, 42, 27, 182, 1, 156, 5, 163, 0, 13, 42]
abbrev dktX7_hoursUntilOff_1 : List UInt8 := dkwX7_hoursUntilOff_1 ++ dktX7_hoursUntilOff_2
def dkwX7_hoursUntilOff_0 : List UInt8 := [42, 3, 181, 0, 72, 42, 27, 182, 1, 127, 153, 0, 5, 3, 172, 42, 180, 0, 7, 3, 42, 180, 0, 13]
abbrev dktX7_hoursUntilOff_0 : List UInt8 := dkwX7_hoursUntilOff_0 ++ dktX7_hoursUntilOff_1
theorem dksX7_hoursUntilOff_0 : cX7_hoursUntilOff.data.toList.drop 0 = dktX7_hoursUntilOff_0 := by decide +kernel
theorem dksX7_hoursUntilOff_1 : cX7_hoursUntilOff.data.toList.drop 24 = dktX7_hoursUntilOff_1 := dk_seg dksX7_hoursUntilOff_0 24 rfl rfl
theorem dksX7_hoursUntilOff_2 : cX7_hoursUntilOff.data.toList.drop 47 = dktX7_hoursUntilOff_2 := dk_seg dksX7_hoursUntilOff_1 23 rfl rfl
theorem dksX7_hoursUntilOff_3 : cX7_hoursUntilOff.data.toList.drop 70 = dktX7_hoursUntilOff_3 := dk_seg dksX7_hoursUntilOff_2 23 rfl rfl
theorem dX7_hoursUntilOff_0 : decode cX7_hoursUntilOff 0 = .ok (.aload_n 0, 1) := dk_42 (dk_at dksX7_hoursUntilOff_0 0 rfl rfl)
theorem dX7_hoursUntilOff_1 : decode cX7_hoursUntilOff 1 = .ok (.iconst 0, 1) := dk_3 (dk_at dksX7_hoursUntilOff_0 1 rfl rfl)
theorem dX7_hoursUntilOff_2 : decode cX7_hoursUntilOff 2 = .ok (.putfield 72, 3) := dk_181 0 72 (dk_at dksX7_hoursUntilOff_0 2 rfl rfl)
theorem dX7_hoursUntilOff_5 : decode cX7_hoursUntilOff 5 = .ok (.aload_n 0, 1) := dk_42 (dk_at dksX7_hoursUntilOff_0 5 rfl rfl)
theorem dX7_hoursUntilOff_6 : decode cX7_hoursUntilOff 6 = .ok (.iload_n 1, 1) := dk_27 (dk_at dksX7_hoursUntilOff_0 6 rfl rfl)
theorem dX7_hoursUntilOff_7 : decode cX7_hoursUntilOff 7 = .ok (.invokevirtual 383, 3) := dk_182 1 127 (dk_at dksX7_hoursUntilOff_0 7 rfl rfl)
theorem dX7_hoursUntilOff_10 : decode cX7_hoursUntilOff 10 = .ok (.ifCond .eq 5, 3) := dk_153 0 5 (dk_at dksX7_hoursUntilOff_0 10 rfl rfl)
theorem dX7_hoursUntilOff_13 : decode cX7_hoursUntilOff 13 = .ok (.iconst 0, 1) := dk_3 (dk_at dksX7_hoursUntilOff_0 13 rfl rfl)
theorem dX7_hoursUntilOff_14 : decode cX7_hoursUntilOff 14 = .ok (.ireturn, 1) := dk_172 (dk_at dksX7_hoursUntilOff_0 14 rfl rfl)
theorem dX7_hoursUntilOff_15 : decode cX7_hoursUntilOff 15 = .ok (.aload_n 0, 1) := dk_42 (dk_at dksX7_hoursUntilOff_0 15 rfl rfl)
theorem dX7_hoursUntilOff_16 : decode cX7_hoursUntilOff 16 = .ok (.getfield 7, 3) := dk_180 0 7 (dk_at dksX7_hoursUntilOff_0 16 rfl rfl)
theorem dX7_hoursUntilOff_19 : decode cX7_hoursUntilOff 19 = .ok (.iconst 0, 1) := dk_3 (dk_at dksX7_hoursUntilOff_0 19 rfl rfl)
theorem dX7_hoursUntilOff_20 : decode cX7_hoursUntilOff 20 = .ok (.aload_n 0, 1) := dk_42 (dk_at dksX7_hoursUntilOff_0 20 rfl rfl)
theorem dX7_hoursUntilOff_21 : decode cX7_hoursUntilOff 21 = .ok (.getfield 13, 3) := dk_180 0 13 (dk_at dksX7_hoursUntilOff_0 21 rfl rfl)
theorem dX7_hoursUntilOff_24 : decode cX7_hoursUntilOff 24 = .ok (.iconst 0, 1) := dk_3 (dk_at dksX7_hoursUntilOff_1 0 rfl rfl)
theorem dX7_hoursUntilOff_25 : decode cX7_hoursUntilOff 25 = .ok (.invokestatic 246, 3) := dk_184 0 246 (dk_at dksX7_hoursUntilOff_1 1 rfl rfl)
theorem dX7_hoursUntilOff_28 : decode cX7_hoursUntilOff 28 = .ok (.iconst 0, 1) := dk_3 (dk_at dksX7_hoursUntilOff_1 4 rfl rfl)
theorem dX7_hoursUntilOff_29 : decode cX7_hoursUntilOff 29 = .ok (.istore_n 2, 1) := dk_61 (dk_at dksX7_hoursUntilOff_1 5 rfl rfl)
theorem dX7_hoursUntilOff_30 : decode cX7_hoursUntilOff 30 = .ok (.iload_n 2, 1) := dk_28 (dk_at dksX7_hoursUntilOff_1 6 rfl rfl)
theorem dX7_hoursUntilOff_31 : decode cX7_hoursUntilOff 31 = .ok (.sipush 200, 3) := dk_17 0 200 (dk_at dksX7_hoursUntilOff_1 7 rfl rfl)
theorem dX7_hoursUntilOff_34 : decode cX7_hoursUntilOff 34 = .ok (.if_icmp .gt 22, 3) := dk_163 0 22 (dk_at dksX7_hoursUntilOff_1 10 rfl rfl)
theorem dX7_hoursUntilOff_37 : decode cX7_hoursUntilOff 37 = .ok (.aload_n 0, 1) := dk_42 (dk_at dksX7_hoursUntilOff_1 13 rfl rfl)
theorem dX7_hoursUntilOff_38 : decode cX7_hoursUntilOff 38 = .ok (.iload_n 1, 1) := dk_27 (dk_at dksX7_hoursUntilOff_1 14 rfl rfl)
theorem dX7_hoursUntilOff_39 : decode cX7_hoursUntilOff 39 = .ok (.invokevirtual 412, 3) := dk_182 1 156 (dk_at dksX7_hoursUntilOff_1 15 rfl rfl)
theorem dX7_hoursUntilOff_42 : decode cX7_hoursUntilOff 42 = .ok (.iconst 2, 1) := dk_5 (dk_at dksX7_hoursUntilOff_1 18 rfl rfl)
theorem dX7_hoursUntilOff_43 : decode cX7_hoursUntilOff 43 = .ok (.if_icmp .gt 13, 3) := dk_163 0 13 (dk_at dksX7_hoursUntilOff_1 19 rfl rfl)
theorem dX7_hoursUntilOff_46 : decode cX7_hoursUntilOff 46 = .ok (.aload_n 0, 1) := dk_42 (dk_at dksX7_hoursUntilOff_1 22 rfl rfl)
theorem dX7_hoursUntilOff_47 : decode cX7_hoursUntilOff 47 = .ok (.invokevirtual 124, 3) := dk_182 0 124 (dk_at dksX7_hoursUntilOff_2 0 rfl rfl)
theorem dX7_hoursUntilOff_50 : decode cX7_hoursUntilOff 50 = .ok (.iinc 2 1, 3) := dk_132 2 1 (dk_at dksX7_hoursUntilOff_2 3 rfl rfl)
theorem dX7_hoursUntilOff_53 : decode cX7_hoursUntilOff 53 = .ok (.goto (-23), 3) := dk_167 255 233 (dk_at dksX7_hoursUntilOff_2 6 rfl rfl)
theorem dX7_hoursUntilOff_56 : decode cX7_hoursUntilOff 56 = .ok (.aload_n 0, 1) := dk_42 (dk_at dksX7_hoursUntilOff_2 9 rfl rfl)
theorem dX7_hoursUntilOff_57 : decode cX7_hoursUntilOff 57 = .ok (.getfield 13, 3) := dk_180 0 13 (dk_at dksX7_hoursUntilOff_2 10 rfl rfl)
theorem dX7_hoursUntilOff_60 : decode cX7_hoursUntilOff 60 = .ok (.iconst 0, 1) := dk_3 (dk_at dksX7_hoursUntilOff_2 13 rfl rfl)
theorem dX7_hoursUntilOff_61 : decode cX7_hoursUntilOff 61 = .ok (.aload_n 0, 1) := dk_42 (dk_at dksX7_hoursUntilOff_2 14 rfl rfl)
theorem dX7_hoursUntilOff_62 : decode cX7_hoursUntilOff 62 = .ok (.getfield 7, 3) := dk_180 0 7 (dk_at dksX7_hoursUntilOff_2 15 rfl rfl)
theorem dX7_hoursUntilOff_65 : decode cX7_hoursUntilOff 65 = .ok (.iconst 0, 1) := dk_3 (dk_at dksX7_hoursUntilOff_2 18 rfl rfl)
theorem dX7_hoursUntilOff_66 : decode cX7_hoursUntilOff 66 = .ok (.invokestatic 246, 3) := dk_184 0 246 (dk_at dksX7_hoursUntilOff_2 19 rfl rfl)
theorem dX7_hoursUntilOff_69 : decode cX7_hoursUntilOff 69 = .ok (.iload_n 2, 1) := dk_28 (dk_at dksX7_hoursUntilOff_2 22 rfl rfl)
theorem dX7_hoursUntilOff_70 : decode cX7_hoursUntilOff 70 = .ok (.sipush 200, 3) := dk_17 0 200 (dk_at dksX7_hoursUntilOff_3 0 rfl rfl)
theorem dX7_hoursUntilOff_73 : decode cX7_hoursUntilOff 73 = .ok (.if_icmp .le 7, 3) := dk_164 0 7 (dk_at dksX7_hoursUntilOff_3 3 rfl rfl)
theorem dX7_hoursUntilOff_76 : decode cX7_hoursUntilOff 76 = .ok (.iconst (-1), 1) := dk_2 (dk_at dksX7_hoursUntilOff_3 6 rfl rfl)
theorem dX7_hoursUntilOff_77 : decode cX7_hoursUntilOff 77 = .ok (.goto 4, 3) := dk_167 0 4 (dk_at dksX7_hoursUntilOff_3 7 rfl rfl)
theorem dX7_hoursUntilOff_80 : decode cX7_hoursUntilOff 80 = .ok (.iload_n 2, 1) := dk_28 (dk_at dksX7_hoursUntilOff_3 10 rfl rfl)
theorem dX7_hoursUntilOff_81 : decode cX7_hoursUntilOff 81 = .ok (.ireturn, 1) := dk_172 (dk_at dksX7_hoursUntilOff_3 11 rfl rfl)
abbrev iX7_hoursUntilOff : xM := (yX7_hoursUntilOff, cX7_hoursUntilOff, 3, (some .int), [])
theorem mX7_hoursUntilOff : xOkM iX7_hoursUntilOff := ⟨by decide +kernel, by decide, q4195, q175⟩
abbrev cX7_writeRow : ByteArray := prog_15_method_148_code
def yX7_writeRow : MethodName := ⟨RX7, "writeRow", "()I"⟩
def dkwX7_writeRow_3 : List UInt8 := [132, 1, 1, 167, 255, 196, 42, 180, 1, 173, 172]
abbrev dktX7_writeRow_3 : List UInt8 := dkwX7_writeRow_3 ++ []
def dkwX7_writeRow_2 : List UInt8 := [180, 0, 7, 16, 20, 27, 96, 46, 5, 182, 0, 75, 4, 160, 0, 9, 42, 16, 42, 182, 1, 176]
abbrev dktX7_writeRow_2 : List UInt8 := dkwX7_writeRow_2 ++ dktX7_writeRow_3
def dkwX7_writeRow_1 : List UInt8 := [182, 1, 179, 42, 42, 42, 180, 0, 7, 16, 20, 27, 96, 46, 3, 182, 0, 75, 182, 1, 182, 42, 42]
abbrev dktX7_writeRow_1 : List UInt8 := dkwX7_writeRow_1 ++ dktX7_writeRow_2
def dkwX7_writeRow_0 : List UInt8 := [42, 3, 181, 0, 72, 42, 3, 181, 1, 173, 3, 60, 27, 42, 180, 0, 7, 16, 14, 46, 162, 0, 55, 42]
abbrev dktX7_writeRow_0 : List UInt8 := dkwX7_writeRow_0 ++ dktX7_writeRow_1
theorem dksX7_writeRow_0 : cX7_writeRow.data.toList.drop 0 = dktX7_writeRow_0 := by decide +kernel
theorem dksX7_writeRow_1 : cX7_writeRow.data.toList.drop 24 = dktX7_writeRow_1 := dk_seg dksX7_writeRow_0 24 rfl rfl
theorem dksX7_writeRow_2 : cX7_writeRow.data.toList.drop 47 = dktX7_writeRow_2 := dk_seg dksX7_writeRow_1 23 rfl rfl
theorem dksX7_writeRow_3 : cX7_writeRow.data.toList.drop 69 = dktX7_writeRow_3 := dk_seg dksX7_writeRow_2 22 rfl rfl
theorem dX7_writeRow_0 : decode cX7_writeRow 0 = .ok (.aload_n 0, 1) := dk_42 (dk_at dksX7_writeRow_0 0 rfl rfl)
theorem dX7_writeRow_1 : decode cX7_writeRow 1 = .ok (.iconst 0, 1) := dk_3 (dk_at dksX7_writeRow_0 1 rfl rfl)
theorem dX7_writeRow_2 : decode cX7_writeRow 2 = .ok (.putfield 72, 3) := dk_181 0 72 (dk_at dksX7_writeRow_0 2 rfl rfl)
theorem dX7_writeRow_5 : decode cX7_writeRow 5 = .ok (.aload_n 0, 1) := dk_42 (dk_at dksX7_writeRow_0 5 rfl rfl)
theorem dX7_writeRow_6 : decode cX7_writeRow 6 = .ok (.iconst 0, 1) := dk_3 (dk_at dksX7_writeRow_0 6 rfl rfl)
theorem dX7_writeRow_7 : decode cX7_writeRow 7 = .ok (.putfield 429, 3) := dk_181 1 173 (dk_at dksX7_writeRow_0 7 rfl rfl)
theorem dX7_writeRow_10 : decode cX7_writeRow 10 = .ok (.iconst 0, 1) := dk_3 (dk_at dksX7_writeRow_0 10 rfl rfl)
theorem dX7_writeRow_11 : decode cX7_writeRow 11 = .ok (.istore_n 1, 1) := dk_60 (dk_at dksX7_writeRow_0 11 rfl rfl)
theorem dX7_writeRow_12 : decode cX7_writeRow 12 = .ok (.iload_n 1, 1) := dk_27 (dk_at dksX7_writeRow_0 12 rfl rfl)
theorem dX7_writeRow_13 : decode cX7_writeRow 13 = .ok (.aload_n 0, 1) := dk_42 (dk_at dksX7_writeRow_0 13 rfl rfl)
theorem dX7_writeRow_14 : decode cX7_writeRow 14 = .ok (.getfield 7, 3) := dk_180 0 7 (dk_at dksX7_writeRow_0 14 rfl rfl)
theorem dX7_writeRow_17 : decode cX7_writeRow 17 = .ok (.bipush 14, 2) := dk_16 14 (dk_at dksX7_writeRow_0 17 rfl rfl)
theorem dX7_writeRow_19 : decode cX7_writeRow 19 = .ok (.iaload, 1) := dk_46 (dk_at dksX7_writeRow_0 19 rfl rfl)
theorem dX7_writeRow_20 : decode cX7_writeRow 20 = .ok (.if_icmp .ge 55, 3) := dk_162 0 55 (dk_at dksX7_writeRow_0 20 rfl rfl)
theorem dX7_writeRow_23 : decode cX7_writeRow 23 = .ok (.aload_n 0, 1) := dk_42 (dk_at dksX7_writeRow_0 23 rfl rfl)
theorem dX7_writeRow_24 : decode cX7_writeRow 24 = .ok (.invokevirtual 435, 3) := dk_182 1 179 (dk_at dksX7_writeRow_1 0 rfl rfl)
theorem dX7_writeRow_27 : decode cX7_writeRow 27 = .ok (.aload_n 0, 1) := dk_42 (dk_at dksX7_writeRow_1 3 rfl rfl)
theorem dX7_writeRow_28 : decode cX7_writeRow 28 = .ok (.aload_n 0, 1) := dk_42 (dk_at dksX7_writeRow_1 4 rfl rfl)
theorem dX7_writeRow_29 : decode cX7_writeRow 29 = .ok (.aload_n 0, 1) := dk_42 (dk_at dksX7_writeRow_1 5 rfl rfl)
theorem dX7_writeRow_30 : decode cX7_writeRow 30 = .ok (.getfield 7, 3) := dk_180 0 7 (dk_at dksX7_writeRow_1 6 rfl rfl)
theorem dX7_writeRow_33 : decode cX7_writeRow 33 = .ok (.bipush 20, 2) := dk_16 20 (dk_at dksX7_writeRow_1 9 rfl rfl)
theorem dX7_writeRow_35 : decode cX7_writeRow 35 = .ok (.iload_n 1, 1) := dk_27 (dk_at dksX7_writeRow_1 11 rfl rfl)
theorem dX7_writeRow_36 : decode cX7_writeRow 36 = .ok (.iadd, 1) := dk_96 (dk_at dksX7_writeRow_1 12 rfl rfl)
theorem dX7_writeRow_37 : decode cX7_writeRow 37 = .ok (.iaload, 1) := dk_46 (dk_at dksX7_writeRow_1 13 rfl rfl)
theorem dX7_writeRow_38 : decode cX7_writeRow 38 = .ok (.iconst 0, 1) := dk_3 (dk_at dksX7_writeRow_1 14 rfl rfl)
theorem dX7_writeRow_39 : decode cX7_writeRow 39 = .ok (.invokevirtual 75, 3) := dk_182 0 75 (dk_at dksX7_writeRow_1 15 rfl rfl)
theorem dX7_writeRow_42 : decode cX7_writeRow 42 = .ok (.invokevirtual 438, 3) := dk_182 1 182 (dk_at dksX7_writeRow_1 18 rfl rfl)
theorem dX7_writeRow_45 : decode cX7_writeRow 45 = .ok (.aload_n 0, 1) := dk_42 (dk_at dksX7_writeRow_1 21 rfl rfl)
theorem dX7_writeRow_46 : decode cX7_writeRow 46 = .ok (.aload_n 0, 1) := dk_42 (dk_at dksX7_writeRow_1 22 rfl rfl)
theorem dX7_writeRow_47 : decode cX7_writeRow 47 = .ok (.getfield 7, 3) := dk_180 0 7 (dk_at dksX7_writeRow_2 0 rfl rfl)
theorem dX7_writeRow_50 : decode cX7_writeRow 50 = .ok (.bipush 20, 2) := dk_16 20 (dk_at dksX7_writeRow_2 3 rfl rfl)
theorem dX7_writeRow_52 : decode cX7_writeRow 52 = .ok (.iload_n 1, 1) := dk_27 (dk_at dksX7_writeRow_2 5 rfl rfl)
theorem dX7_writeRow_53 : decode cX7_writeRow 53 = .ok (.iadd, 1) := dk_96 (dk_at dksX7_writeRow_2 6 rfl rfl)
theorem dX7_writeRow_54 : decode cX7_writeRow 54 = .ok (.iaload, 1) := dk_46 (dk_at dksX7_writeRow_2 7 rfl rfl)
theorem dX7_writeRow_55 : decode cX7_writeRow 55 = .ok (.iconst 2, 1) := dk_5 (dk_at dksX7_writeRow_2 8 rfl rfl)
theorem dX7_writeRow_56 : decode cX7_writeRow 56 = .ok (.invokevirtual 75, 3) := dk_182 0 75 (dk_at dksX7_writeRow_2 9 rfl rfl)
theorem dX7_writeRow_59 : decode cX7_writeRow 59 = .ok (.iconst 1, 1) := dk_4 (dk_at dksX7_writeRow_2 12 rfl rfl)
theorem dX7_writeRow_60 : decode cX7_writeRow 60 = .ok (.if_icmp .ne 9, 3) := dk_160 0 9 (dk_at dksX7_writeRow_2 13 rfl rfl)
theorem dX7_writeRow_63 : decode cX7_writeRow 63 = .ok (.aload_n 0, 1) := dk_42 (dk_at dksX7_writeRow_2 16 rfl rfl)
theorem dX7_writeRow_64 : decode cX7_writeRow 64 = .ok (.bipush 42, 2) := dk_16 42 (dk_at dksX7_writeRow_2 17 rfl rfl)
theorem dX7_writeRow_66 : decode cX7_writeRow 66 = .ok (.invokevirtual 432, 3) := dk_182 1 176 (dk_at dksX7_writeRow_2 19 rfl rfl)
theorem dX7_writeRow_69 : decode cX7_writeRow 69 = .ok (.iinc 1 1, 3) := dk_132 1 1 (dk_at dksX7_writeRow_3 0 rfl rfl)
theorem dX7_writeRow_72 : decode cX7_writeRow 72 = .ok (.goto (-60), 3) := dk_167 255 196 (dk_at dksX7_writeRow_3 3 rfl rfl)
theorem dX7_writeRow_75 : decode cX7_writeRow 75 = .ok (.aload_n 0, 1) := dk_42 (dk_at dksX7_writeRow_3 6 rfl rfl)
theorem dX7_writeRow_76 : decode cX7_writeRow 76 = .ok (.getfield 429, 3) := dk_180 1 173 (dk_at dksX7_writeRow_3 7 rfl rfl)
theorem dX7_writeRow_79 : decode cX7_writeRow 79 = .ok (.ireturn, 1) := dk_172 (dk_at dksX7_writeRow_3 10 rfl rfl)
abbrev iX7_writeRow : xM := (yX7_writeRow, cX7_writeRow, 2, (some .int), [])
theorem mX7_writeRow : xOkM iX7_writeRow := ⟨by decide +kernel, by decide, q4199, q175⟩
abbrev cX7_space : ByteArray := prog_15_method_147_code
def yX7_space : MethodName := ⟨RX7, "space", "()V"⟩
def dkwX7_space_0 : List UInt8 := [42, 180, 1, 173, 158, 0, 9, 42, 16, 32, 182, 1, 176, 177]
abbrev dktX7_space_0 : List UInt8 := dkwX7_space_0 ++ []
theorem dksX7_space_0 : cX7_space.data.toList.drop 0 = dktX7_space_0 := by decide +kernel
theorem dX7_space_0 : decode cX7_space 0 = .ok (.aload_n 0, 1) := dk_42 (dk_at dksX7_space_0 0 rfl rfl)
theorem dX7_space_1 : decode cX7_space 1 = .ok (.getfield 429, 3) := dk_180 1 173 (dk_at dksX7_space_0 1 rfl rfl)
theorem dX7_space_4 : decode cX7_space 4 = .ok (.ifCond .le 9, 3) := dk_158 0 9 (dk_at dksX7_space_0 4 rfl rfl)
theorem dX7_space_7 : decode cX7_space 7 = .ok (.aload_n 0, 1) := dk_42 (dk_at dksX7_space_0 7 rfl rfl)
theorem dX7_space_8 : decode cX7_space 8 = .ok (.bipush 32, 2) := dk_16 32 (dk_at dksX7_space_0 8 rfl rfl)
theorem dX7_space_10 : decode cX7_space 10 = .ok (.invokevirtual 432, 3) := dk_182 1 176 (dk_at dksX7_space_0 10 rfl rfl)
theorem dX7_space_13 : decode cX7_space 13 = .ok (.return_, 1) := dk_177 (dk_at dksX7_space_0 13 rfl rfl)
abbrev iX7_space : xM := (yX7_space, cX7_space, 1, none, [])
theorem mX7_space : xOkM iX7_space := ⟨by decide +kernel, by decide, q4203, q175⟩
abbrev cX7_writes : ByteArray := prog_15_method_144_code
def yX7_writes : MethodName := ⟨RX7, "writes", "(I)V"⟩
def dkwX7_writes_0 : List UInt8 := [42, 180, 0, 58, 42, 180, 1, 173, 27, 79, 42, 89, 180, 1, 173, 4, 96, 181, 1, 173, 177]
abbrev dktX7_writes_0 : List UInt8 := dkwX7_writes_0 ++ []
theorem dksX7_writes_0 : cX7_writes.data.toList.drop 0 = dktX7_writes_0 := by decide +kernel
theorem dX7_writes_0 : decode cX7_writes 0 = .ok (.aload_n 0, 1) := dk_42 (dk_at dksX7_writes_0 0 rfl rfl)
theorem dX7_writes_1 : decode cX7_writes 1 = .ok (.getfield 58, 3) := dk_180 0 58 (dk_at dksX7_writes_0 1 rfl rfl)
theorem dX7_writes_4 : decode cX7_writes 4 = .ok (.aload_n 0, 1) := dk_42 (dk_at dksX7_writes_0 4 rfl rfl)
theorem dX7_writes_5 : decode cX7_writes 5 = .ok (.getfield 429, 3) := dk_180 1 173 (dk_at dksX7_writes_0 5 rfl rfl)
theorem dX7_writes_8 : decode cX7_writes 8 = .ok (.iload_n 1, 1) := dk_27 (dk_at dksX7_writes_0 8 rfl rfl)
theorem dX7_writes_9 : decode cX7_writes 9 = .ok (.iastore, 1) := dk_79 (dk_at dksX7_writes_0 9 rfl rfl)
theorem dX7_writes_10 : decode cX7_writes 10 = .ok (.aload_n 0, 1) := dk_42 (dk_at dksX7_writes_0 10 rfl rfl)
theorem dX7_writes_11 : decode cX7_writes 11 = .ok (.dup, 1) := dk_89 (dk_at dksX7_writes_0 11 rfl rfl)
theorem dX7_writes_12 : decode cX7_writes 12 = .ok (.getfield 429, 3) := dk_180 1 173 (dk_at dksX7_writes_0 12 rfl rfl)
theorem dX7_writes_15 : decode cX7_writes 15 = .ok (.iconst 1, 1) := dk_4 (dk_at dksX7_writes_0 15 rfl rfl)
theorem dX7_writes_16 : decode cX7_writes 16 = .ok (.iadd, 1) := dk_96 (dk_at dksX7_writes_0 16 rfl rfl)
theorem dX7_writes_17 : decode cX7_writes 17 = .ok (.putfield 429, 3) := dk_181 1 173 (dk_at dksX7_writes_0 17 rfl rfl)
theorem dX7_writes_20 : decode cX7_writes 20 = .ok (.return_, 1) := dk_177 (dk_at dksX7_writes_0 20 rfl rfl)
abbrev iX7_writes : xM := (yX7_writes, cX7_writes, 2, none, [])
theorem mX7_writes : xOkM iX7_writes := ⟨by decide +kernel, by decide, q4207, q175⟩
abbrev cX7_writesName : ByteArray := prog_15_method_146_code
def yX7_writesName : MethodName := ⟨RX7, "writesName", "(I)V"⟩
def dkwX7_writesName_1 : List UInt8 := [167, 255, 236, 177]
abbrev dktX7_writesName_1 : List UInt8 := dkwX7_writesName_1 ++ []
def dkwX7_writesName_0 : List UInt8 := [3, 61, 28, 27, 184, 1, 150, 162, 0, 18, 42, 27, 28, 184, 1, 153, 182, 1, 176, 132, 2, 1]
abbrev dktX7_writesName_0 : List UInt8 := dkwX7_writesName_0 ++ dktX7_writesName_1
theorem dksX7_writesName_0 : cX7_writesName.data.toList.drop 0 = dktX7_writesName_0 := by decide +kernel
theorem dksX7_writesName_1 : cX7_writesName.data.toList.drop 22 = dktX7_writesName_1 := dk_seg dksX7_writesName_0 22 rfl rfl
theorem dX7_writesName_0 : decode cX7_writesName 0 = .ok (.iconst 0, 1) := dk_3 (dk_at dksX7_writesName_0 0 rfl rfl)
theorem dX7_writesName_1 : decode cX7_writesName 1 = .ok (.istore_n 2, 1) := dk_61 (dk_at dksX7_writesName_0 1 rfl rfl)
theorem dX7_writesName_2 : decode cX7_writesName 2 = .ok (.iload_n 2, 1) := dk_28 (dk_at dksX7_writesName_0 2 rfl rfl)
theorem dX7_writesName_3 : decode cX7_writesName 3 = .ok (.iload_n 1, 1) := dk_27 (dk_at dksX7_writesName_0 3 rfl rfl)
theorem dX7_writesName_4 : decode cX7_writesName 4 = .ok (.invokestatic 406, 3) := dk_184 1 150 (dk_at dksX7_writesName_0 4 rfl rfl)
theorem dX7_writesName_7 : decode cX7_writesName 7 = .ok (.if_icmp .ge 18, 3) := dk_162 0 18 (dk_at dksX7_writesName_0 7 rfl rfl)
theorem dX7_writesName_10 : decode cX7_writesName 10 = .ok (.aload_n 0, 1) := dk_42 (dk_at dksX7_writesName_0 10 rfl rfl)
theorem dX7_writesName_11 : decode cX7_writesName 11 = .ok (.iload_n 1, 1) := dk_27 (dk_at dksX7_writesName_0 11 rfl rfl)
theorem dX7_writesName_12 : decode cX7_writesName 12 = .ok (.iload_n 2, 1) := dk_28 (dk_at dksX7_writesName_0 12 rfl rfl)
theorem dX7_writesName_13 : decode cX7_writesName 13 = .ok (.invokestatic 409, 3) := dk_184 1 153 (dk_at dksX7_writesName_0 13 rfl rfl)
theorem dX7_writesName_16 : decode cX7_writesName 16 = .ok (.invokevirtual 432, 3) := dk_182 1 176 (dk_at dksX7_writesName_0 16 rfl rfl)
theorem dX7_writesName_19 : decode cX7_writesName 19 = .ok (.iinc 2 1, 3) := dk_132 2 1 (dk_at dksX7_writesName_0 19 rfl rfl)
theorem dX7_writesName_22 : decode cX7_writesName 22 = .ok (.goto (-20), 3) := dk_167 255 236 (dk_at dksX7_writesName_1 0 rfl rfl)
theorem dX7_writesName_25 : decode cX7_writesName 25 = .ok (.return_, 1) := dk_177 (dk_at dksX7_writesName_1 3 rfl rfl)
abbrev iX7_writesName : xM := (yX7_writesName, cX7_writesName, 3, none, [])
theorem mX7_writesName : xOkM iX7_writesName := ⟨by decide +kernel, by decide, q4211, q175⟩
abbrev cX7_writeFiddler : ByteArray := prog_15_method_150_code
def yX7_writeFiddler : MethodName := ⟨RX7, "writeFiddler", "(I)I"⟩
def dkwX7_writeFiddler_1 : List UInt8 := [162, 0, 15, 42, 27, 28, 182, 1, 188, 132, 2, 1, 167, 255, 242, 42, 180, 1, 173, 172]
abbrev dktX7_writeFiddler_1 : List UInt8 := dkwX7_writeFiddler_1 ++ []
def dkwX7_writeFiddler_0 : List UInt8 := [42, 3, 181, 0, 72, 42, 27, 182, 1, 127, 153, 0, 5, 3, 172, 42, 3, 181, 1, 173, 3, 61, 28, 7]
abbrev dktX7_writeFiddler_0 : List UInt8 := dkwX7_writeFiddler_0 ++ dktX7_writeFiddler_1
theorem dksX7_writeFiddler_0 : cX7_writeFiddler.data.toList.drop 0 = dktX7_writeFiddler_0 := by decide +kernel
theorem dksX7_writeFiddler_1 : cX7_writeFiddler.data.toList.drop 24 = dktX7_writeFiddler_1 := dk_seg dksX7_writeFiddler_0 24 rfl rfl
theorem dX7_writeFiddler_0 : decode cX7_writeFiddler 0 = .ok (.aload_n 0, 1) := dk_42 (dk_at dksX7_writeFiddler_0 0 rfl rfl)
theorem dX7_writeFiddler_1 : decode cX7_writeFiddler 1 = .ok (.iconst 0, 1) := dk_3 (dk_at dksX7_writeFiddler_0 1 rfl rfl)
theorem dX7_writeFiddler_2 : decode cX7_writeFiddler 2 = .ok (.putfield 72, 3) := dk_181 0 72 (dk_at dksX7_writeFiddler_0 2 rfl rfl)
theorem dX7_writeFiddler_5 : decode cX7_writeFiddler 5 = .ok (.aload_n 0, 1) := dk_42 (dk_at dksX7_writeFiddler_0 5 rfl rfl)
theorem dX7_writeFiddler_6 : decode cX7_writeFiddler 6 = .ok (.iload_n 1, 1) := dk_27 (dk_at dksX7_writeFiddler_0 6 rfl rfl)
theorem dX7_writeFiddler_7 : decode cX7_writeFiddler 7 = .ok (.invokevirtual 383, 3) := dk_182 1 127 (dk_at dksX7_writeFiddler_0 7 rfl rfl)
theorem dX7_writeFiddler_10 : decode cX7_writeFiddler 10 = .ok (.ifCond .eq 5, 3) := dk_153 0 5 (dk_at dksX7_writeFiddler_0 10 rfl rfl)
theorem dX7_writeFiddler_13 : decode cX7_writeFiddler 13 = .ok (.iconst 0, 1) := dk_3 (dk_at dksX7_writeFiddler_0 13 rfl rfl)
theorem dX7_writeFiddler_14 : decode cX7_writeFiddler 14 = .ok (.ireturn, 1) := dk_172 (dk_at dksX7_writeFiddler_0 14 rfl rfl)
theorem dX7_writeFiddler_15 : decode cX7_writeFiddler 15 = .ok (.aload_n 0, 1) := dk_42 (dk_at dksX7_writeFiddler_0 15 rfl rfl)
theorem dX7_writeFiddler_16 : decode cX7_writeFiddler 16 = .ok (.iconst 0, 1) := dk_3 (dk_at dksX7_writeFiddler_0 16 rfl rfl)
theorem dX7_writeFiddler_17 : decode cX7_writeFiddler 17 = .ok (.putfield 429, 3) := dk_181 1 173 (dk_at dksX7_writeFiddler_0 17 rfl rfl)
theorem dX7_writeFiddler_20 : decode cX7_writeFiddler 20 = .ok (.iconst 0, 1) := dk_3 (dk_at dksX7_writeFiddler_0 20 rfl rfl)
theorem dX7_writeFiddler_21 : decode cX7_writeFiddler 21 = .ok (.istore_n 2, 1) := dk_61 (dk_at dksX7_writeFiddler_0 21 rfl rfl)
theorem dX7_writeFiddler_22 : decode cX7_writeFiddler 22 = .ok (.iload_n 2, 1) := dk_28 (dk_at dksX7_writeFiddler_0 22 rfl rfl)
theorem dX7_writeFiddler_23 : decode cX7_writeFiddler 23 = .ok (.iconst 4, 1) := dk_7 (dk_at dksX7_writeFiddler_0 23 rfl rfl)
theorem dX7_writeFiddler_24 : decode cX7_writeFiddler 24 = .ok (.if_icmp .ge 15, 3) := dk_162 0 15 (dk_at dksX7_writeFiddler_1 0 rfl rfl)
theorem dX7_writeFiddler_27 : decode cX7_writeFiddler 27 = .ok (.aload_n 0, 1) := dk_42 (dk_at dksX7_writeFiddler_1 3 rfl rfl)
theorem dX7_writeFiddler_28 : decode cX7_writeFiddler 28 = .ok (.iload_n 1, 1) := dk_27 (dk_at dksX7_writeFiddler_1 4 rfl rfl)
theorem dX7_writeFiddler_29 : decode cX7_writeFiddler 29 = .ok (.iload_n 2, 1) := dk_28 (dk_at dksX7_writeFiddler_1 5 rfl rfl)
theorem dX7_writeFiddler_30 : decode cX7_writeFiddler 30 = .ok (.invokevirtual 444, 3) := dk_182 1 188 (dk_at dksX7_writeFiddler_1 6 rfl rfl)
theorem dX7_writeFiddler_33 : decode cX7_writeFiddler 33 = .ok (.iinc 2 1, 3) := dk_132 2 1 (dk_at dksX7_writeFiddler_1 9 rfl rfl)
theorem dX7_writeFiddler_36 : decode cX7_writeFiddler 36 = .ok (.goto (-14), 3) := dk_167 255 242 (dk_at dksX7_writeFiddler_1 12 rfl rfl)
theorem dX7_writeFiddler_39 : decode cX7_writeFiddler 39 = .ok (.aload_n 0, 1) := dk_42 (dk_at dksX7_writeFiddler_1 15 rfl rfl)
theorem dX7_writeFiddler_40 : decode cX7_writeFiddler 40 = .ok (.getfield 429, 3) := dk_180 1 173 (dk_at dksX7_writeFiddler_1 16 rfl rfl)
theorem dX7_writeFiddler_43 : decode cX7_writeFiddler 43 = .ok (.ireturn, 1) := dk_172 (dk_at dksX7_writeFiddler_1 19 rfl rfl)
abbrev iX7_writeFiddler : xM := (yX7_writeFiddler, cX7_writeFiddler, 3, (some .int), [])
theorem mX7_writeFiddler : xOkM iX7_writeFiddler := ⟨by decide +kernel, by decide, q4215, q175⟩
abbrev cX7_writesString : ByteArray := prog_15_method_149_code
def yX7_writesString : MethodName := ⟨RX7, "writesString", "(II)V"⟩
def dkwX7_writesString_2 : List UInt8 := [182, 1, 176, 177, 29, 156, 0, 9, 42, 16, 45, 182, 1, 176, 42, 29, 184, 0, 93, 182, 1, 185, 177]
abbrev dktX7_writesString_2 : List UInt8 := dkwX7_writesString_2 ++ []
def dkwX7_writesString_1 : List UInt8 := [42, 27, 16, 9, 28, 96, 182, 0, 75, 62, 42, 27, 28, 182, 0, 85, 153, 0, 10, 42, 16, 120]
abbrev dktX7_writesString_1 : List UInt8 := dkwX7_writesString_1 ++ dktX7_writesString_2
def dkwX7_writesString_0 : List UInt8 := [42, 182, 1, 179, 42, 42, 180, 0, 38, 28, 47, 136, 16, 96, 96, 182, 1, 176, 42, 16, 58, 182, 1, 176]
abbrev dktX7_writesString_0 : List UInt8 := dkwX7_writesString_0 ++ dktX7_writesString_1
theorem dksX7_writesString_0 : cX7_writesString.data.toList.drop 0 = dktX7_writesString_0 := by decide +kernel
theorem dksX7_writesString_1 : cX7_writesString.data.toList.drop 24 = dktX7_writesString_1 := dk_seg dksX7_writesString_0 24 rfl rfl
theorem dksX7_writesString_2 : cX7_writesString.data.toList.drop 46 = dktX7_writesString_2 := dk_seg dksX7_writesString_1 22 rfl rfl
theorem dX7_writesString_0 : decode cX7_writesString 0 = .ok (.aload_n 0, 1) := dk_42 (dk_at dksX7_writesString_0 0 rfl rfl)
theorem dX7_writesString_1 : decode cX7_writesString 1 = .ok (.invokevirtual 435, 3) := dk_182 1 179 (dk_at dksX7_writesString_0 1 rfl rfl)
theorem dX7_writesString_4 : decode cX7_writesString 4 = .ok (.aload_n 0, 1) := dk_42 (dk_at dksX7_writesString_0 4 rfl rfl)
theorem dX7_writesString_5 : decode cX7_writesString 5 = .ok (.aload_n 0, 1) := dk_42 (dk_at dksX7_writesString_0 5 rfl rfl)
theorem dX7_writesString_6 : decode cX7_writesString 6 = .ok (.getfield 38, 3) := dk_180 0 38 (dk_at dksX7_writesString_0 6 rfl rfl)
theorem dX7_writesString_9 : decode cX7_writesString 9 = .ok (.iload_n 2, 1) := dk_28 (dk_at dksX7_writesString_0 9 rfl rfl)
theorem dX7_writesString_10 : decode cX7_writesString 10 = .ok (.laload, 1) := dk_47 (dk_at dksX7_writesString_0 10 rfl rfl)
theorem dX7_writesString_11 : decode cX7_writesString 11 = .ok (.l2i, 1) := dk_136 (dk_at dksX7_writesString_0 11 rfl rfl)
theorem dX7_writesString_12 : decode cX7_writesString 12 = .ok (.bipush 96, 2) := dk_16 96 (dk_at dksX7_writesString_0 12 rfl rfl)
theorem dX7_writesString_14 : decode cX7_writesString 14 = .ok (.iadd, 1) := dk_96 (dk_at dksX7_writesString_0 14 rfl rfl)
theorem dX7_writesString_15 : decode cX7_writesString 15 = .ok (.invokevirtual 432, 3) := dk_182 1 176 (dk_at dksX7_writesString_0 15 rfl rfl)
theorem dX7_writesString_18 : decode cX7_writesString 18 = .ok (.aload_n 0, 1) := dk_42 (dk_at dksX7_writesString_0 18 rfl rfl)
theorem dX7_writesString_19 : decode cX7_writesString 19 = .ok (.bipush 58, 2) := dk_16 58 (dk_at dksX7_writesString_0 19 rfl rfl)
theorem dX7_writesString_21 : decode cX7_writesString 21 = .ok (.invokevirtual 432, 3) := dk_182 1 176 (dk_at dksX7_writesString_0 21 rfl rfl)
theorem dX7_writesString_24 : decode cX7_writesString 24 = .ok (.aload_n 0, 1) := dk_42 (dk_at dksX7_writesString_1 0 rfl rfl)
theorem dX7_writesString_25 : decode cX7_writesString 25 = .ok (.iload_n 1, 1) := dk_27 (dk_at dksX7_writesString_1 1 rfl rfl)
theorem dX7_writesString_26 : decode cX7_writesString 26 = .ok (.bipush 9, 2) := dk_16 9 (dk_at dksX7_writesString_1 2 rfl rfl)
theorem dX7_writesString_28 : decode cX7_writesString 28 = .ok (.iload_n 2, 1) := dk_28 (dk_at dksX7_writesString_1 4 rfl rfl)
theorem dX7_writesString_29 : decode cX7_writesString 29 = .ok (.iadd, 1) := dk_96 (dk_at dksX7_writesString_1 5 rfl rfl)
theorem dX7_writesString_30 : decode cX7_writesString 30 = .ok (.invokevirtual 75, 3) := dk_182 0 75 (dk_at dksX7_writesString_1 6 rfl rfl)
theorem dX7_writesString_33 : decode cX7_writesString 33 = .ok (.istore_n 3, 1) := dk_62 (dk_at dksX7_writesString_1 9 rfl rfl)
theorem dX7_writesString_34 : decode cX7_writesString 34 = .ok (.aload_n 0, 1) := dk_42 (dk_at dksX7_writesString_1 10 rfl rfl)
theorem dX7_writesString_35 : decode cX7_writesString 35 = .ok (.iload_n 1, 1) := dk_27 (dk_at dksX7_writesString_1 11 rfl rfl)
theorem dX7_writesString_36 : decode cX7_writesString 36 = .ok (.iload_n 2, 1) := dk_28 (dk_at dksX7_writesString_1 12 rfl rfl)
theorem dX7_writesString_37 : decode cX7_writesString 37 = .ok (.invokevirtual 85, 3) := dk_182 0 85 (dk_at dksX7_writesString_1 13 rfl rfl)
theorem dX7_writesString_40 : decode cX7_writesString 40 = .ok (.ifCond .eq 10, 3) := dk_153 0 10 (dk_at dksX7_writesString_1 16 rfl rfl)
theorem dX7_writesString_43 : decode cX7_writesString 43 = .ok (.aload_n 0, 1) := dk_42 (dk_at dksX7_writesString_1 19 rfl rfl)
theorem dX7_writesString_44 : decode cX7_writesString 44 = .ok (.bipush 120, 2) := dk_16 120 (dk_at dksX7_writesString_1 20 rfl rfl)
theorem dX7_writesString_46 : decode cX7_writesString 46 = .ok (.invokevirtual 432, 3) := dk_182 1 176 (dk_at dksX7_writesString_2 0 rfl rfl)
theorem dX7_writesString_49 : decode cX7_writesString 49 = .ok (.return_, 1) := dk_177 (dk_at dksX7_writesString_2 3 rfl rfl)
theorem dX7_writesString_50 : decode cX7_writesString 50 = .ok (.iload_n 3, 1) := dk_29 (dk_at dksX7_writesString_2 4 rfl rfl)
theorem dX7_writesString_51 : decode cX7_writesString 51 = .ok (.ifCond .ge 9, 3) := dk_156 0 9 (dk_at dksX7_writesString_2 5 rfl rfl)
theorem dX7_writesString_54 : decode cX7_writesString 54 = .ok (.aload_n 0, 1) := dk_42 (dk_at dksX7_writesString_2 8 rfl rfl)
theorem dX7_writesString_55 : decode cX7_writesString 55 = .ok (.bipush 45, 2) := dk_16 45 (dk_at dksX7_writesString_2 9 rfl rfl)
theorem dX7_writesString_57 : decode cX7_writesString 57 = .ok (.invokevirtual 432, 3) := dk_182 1 176 (dk_at dksX7_writesString_2 11 rfl rfl)
theorem dX7_writesString_60 : decode cX7_writesString 60 = .ok (.aload_n 0, 1) := dk_42 (dk_at dksX7_writesString_2 14 rfl rfl)
theorem dX7_writesString_61 : decode cX7_writesString 61 = .ok (.iload_n 3, 1) := dk_29 (dk_at dksX7_writesString_2 15 rfl rfl)
theorem dX7_writesString_62 : decode cX7_writesString 62 = .ok (.invokestatic 93, 3) := dk_184 0 93 (dk_at dksX7_writesString_2 16 rfl rfl)
theorem dX7_writesString_65 : decode cX7_writesString 65 = .ok (.invokevirtual 441, 3) := dk_182 1 185 (dk_at dksX7_writesString_2 19 rfl rfl)
theorem dX7_writesString_68 : decode cX7_writesString 68 = .ok (.return_, 1) := dk_177 (dk_at dksX7_writesString_2 22 rfl rfl)
abbrev iX7_writesString : xM := (yX7_writesString, cX7_writesString, 4, none, [])
theorem mX7_writesString : xOkM iX7_writesString := ⟨by decide +kernel, by decide, q4219, q175⟩
abbrev cX7_writesNumber : ByteArray := prog_15_method_145_code
def yX7_writesNumber : MethodName := ⟨RX7, "writesNumber", "(I)V"⟩
def dkwX7_writesNumber_1 : List UInt8 := [16, 48, 27, 28, 108, 16, 10, 112, 96, 182, 1, 176, 28, 16, 10, 108, 61, 167, 255, 234, 177]
abbrev dktX7_writesNumber_1 : List UInt8 := dkwX7_writesNumber_1 ++ []
def dkwX7_writesNumber_0 : List UInt8 := [4, 61, 27, 28, 108, 16, 9, 164, 0, 11, 28, 16, 10, 104, 61, 167, 255, 243, 28, 158, 0, 24, 42]
abbrev dktX7_writesNumber_0 : List UInt8 := dkwX7_writesNumber_0 ++ dktX7_writesNumber_1
theorem dksX7_writesNumber_0 : cX7_writesNumber.data.toList.drop 0 = dktX7_writesNumber_0 := by decide +kernel
theorem dksX7_writesNumber_1 : cX7_writesNumber.data.toList.drop 23 = dktX7_writesNumber_1 := dk_seg dksX7_writesNumber_0 23 rfl rfl
theorem dX7_writesNumber_0 : decode cX7_writesNumber 0 = .ok (.iconst 1, 1) := dk_4 (dk_at dksX7_writesNumber_0 0 rfl rfl)
theorem dX7_writesNumber_1 : decode cX7_writesNumber 1 = .ok (.istore_n 2, 1) := dk_61 (dk_at dksX7_writesNumber_0 1 rfl rfl)
theorem dX7_writesNumber_2 : decode cX7_writesNumber 2 = .ok (.iload_n 1, 1) := dk_27 (dk_at dksX7_writesNumber_0 2 rfl rfl)
theorem dX7_writesNumber_3 : decode cX7_writesNumber 3 = .ok (.iload_n 2, 1) := dk_28 (dk_at dksX7_writesNumber_0 3 rfl rfl)
theorem dX7_writesNumber_4 : decode cX7_writesNumber 4 = .ok (.idiv, 1) := dk_108 (dk_at dksX7_writesNumber_0 4 rfl rfl)
theorem dX7_writesNumber_5 : decode cX7_writesNumber 5 = .ok (.bipush 9, 2) := dk_16 9 (dk_at dksX7_writesNumber_0 5 rfl rfl)
theorem dX7_writesNumber_7 : decode cX7_writesNumber 7 = .ok (.if_icmp .le 11, 3) := dk_164 0 11 (dk_at dksX7_writesNumber_0 7 rfl rfl)
theorem dX7_writesNumber_10 : decode cX7_writesNumber 10 = .ok (.iload_n 2, 1) := dk_28 (dk_at dksX7_writesNumber_0 10 rfl rfl)
theorem dX7_writesNumber_11 : decode cX7_writesNumber 11 = .ok (.bipush 10, 2) := dk_16 10 (dk_at dksX7_writesNumber_0 11 rfl rfl)
theorem dX7_writesNumber_13 : decode cX7_writesNumber 13 = .ok (.imul, 1) := dk_104 (dk_at dksX7_writesNumber_0 13 rfl rfl)
theorem dX7_writesNumber_14 : decode cX7_writesNumber 14 = .ok (.istore_n 2, 1) := dk_61 (dk_at dksX7_writesNumber_0 14 rfl rfl)
theorem dX7_writesNumber_15 : decode cX7_writesNumber 15 = .ok (.goto (-13), 3) := dk_167 255 243 (dk_at dksX7_writesNumber_0 15 rfl rfl)
theorem dX7_writesNumber_18 : decode cX7_writesNumber 18 = .ok (.iload_n 2, 1) := dk_28 (dk_at dksX7_writesNumber_0 18 rfl rfl)
theorem dX7_writesNumber_19 : decode cX7_writesNumber 19 = .ok (.ifCond .le 24, 3) := dk_158 0 24 (dk_at dksX7_writesNumber_0 19 rfl rfl)
theorem dX7_writesNumber_22 : decode cX7_writesNumber 22 = .ok (.aload_n 0, 1) := dk_42 (dk_at dksX7_writesNumber_0 22 rfl rfl)
theorem dX7_writesNumber_23 : decode cX7_writesNumber 23 = .ok (.bipush 48, 2) := dk_16 48 (dk_at dksX7_writesNumber_1 0 rfl rfl)
theorem dX7_writesNumber_25 : decode cX7_writesNumber 25 = .ok (.iload_n 1, 1) := dk_27 (dk_at dksX7_writesNumber_1 2 rfl rfl)
theorem dX7_writesNumber_26 : decode cX7_writesNumber 26 = .ok (.iload_n 2, 1) := dk_28 (dk_at dksX7_writesNumber_1 3 rfl rfl)
theorem dX7_writesNumber_27 : decode cX7_writesNumber 27 = .ok (.idiv, 1) := dk_108 (dk_at dksX7_writesNumber_1 4 rfl rfl)
theorem dX7_writesNumber_28 : decode cX7_writesNumber 28 = .ok (.bipush 10, 2) := dk_16 10 (dk_at dksX7_writesNumber_1 5 rfl rfl)
theorem dX7_writesNumber_30 : decode cX7_writesNumber 30 = .ok (.irem, 1) := dk_112 (dk_at dksX7_writesNumber_1 7 rfl rfl)
theorem dX7_writesNumber_31 : decode cX7_writesNumber 31 = .ok (.iadd, 1) := dk_96 (dk_at dksX7_writesNumber_1 8 rfl rfl)
theorem dX7_writesNumber_32 : decode cX7_writesNumber 32 = .ok (.invokevirtual 432, 3) := dk_182 1 176 (dk_at dksX7_writesNumber_1 9 rfl rfl)
theorem dX7_writesNumber_35 : decode cX7_writesNumber 35 = .ok (.iload_n 2, 1) := dk_28 (dk_at dksX7_writesNumber_1 12 rfl rfl)
theorem dX7_writesNumber_36 : decode cX7_writesNumber 36 = .ok (.bipush 10, 2) := dk_16 10 (dk_at dksX7_writesNumber_1 13 rfl rfl)
theorem dX7_writesNumber_38 : decode cX7_writesNumber 38 = .ok (.idiv, 1) := dk_108 (dk_at dksX7_writesNumber_1 15 rfl rfl)
theorem dX7_writesNumber_39 : decode cX7_writesNumber 39 = .ok (.istore_n 2, 1) := dk_61 (dk_at dksX7_writesNumber_1 16 rfl rfl)
theorem dX7_writesNumber_40 : decode cX7_writesNumber 40 = .ok (.goto (-22), 3) := dk_167 255 234 (dk_at dksX7_writesNumber_1 17 rfl rfl)
theorem dX7_writesNumber_43 : decode cX7_writesNumber 43 = .ok (.return_, 1) := dk_177 (dk_at dksX7_writesNumber_1 20 rfl rfl)
abbrev iX7_writesNumber : xM := (yX7_writesNumber, cX7_writesNumber, 3, none, [])
theorem mX7_writesNumber : xOkM iX7_writesNumber := ⟨by decide +kernel, by decide, q4223, q175⟩
abbrev cX7_outputByte : ByteArray := prog_15_method_151_code
def yX7_outputByte : MethodName := ⟨RX7, "outputByte", "(I)I"⟩
def dkwX7_outputByte_1 : List UInt8 := [180, 0, 58, 27, 46, 167, 0, 4, 2, 172]
abbrev dktX7_outputByte_1 : List UInt8 := dkwX7_outputByte_1 ++ []
def dkwX7_outputByte_0 : List UInt8 := [42, 3, 181, 0, 72, 27, 133, 9, 42, 180, 1, 173, 4, 100, 133, 184, 0, 144, 153, 0, 12, 42]
abbrev dktX7_outputByte_0 : List UInt8 := dkwX7_outputByte_0 ++ dktX7_outputByte_1
theorem dksX7_outputByte_0 : cX7_outputByte.data.toList.drop 0 = dktX7_outputByte_0 := by decide +kernel
theorem dksX7_outputByte_1 : cX7_outputByte.data.toList.drop 22 = dktX7_outputByte_1 := dk_seg dksX7_outputByte_0 22 rfl rfl
theorem dX7_outputByte_0 : decode cX7_outputByte 0 = .ok (.aload_n 0, 1) := dk_42 (dk_at dksX7_outputByte_0 0 rfl rfl)
theorem dX7_outputByte_1 : decode cX7_outputByte 1 = .ok (.iconst 0, 1) := dk_3 (dk_at dksX7_outputByte_0 1 rfl rfl)
theorem dX7_outputByte_2 : decode cX7_outputByte 2 = .ok (.putfield 72, 3) := dk_181 0 72 (dk_at dksX7_outputByte_0 2 rfl rfl)
theorem dX7_outputByte_5 : decode cX7_outputByte 5 = .ok (.iload_n 1, 1) := dk_27 (dk_at dksX7_outputByte_0 5 rfl rfl)
theorem dX7_outputByte_6 : decode cX7_outputByte 6 = .ok (.i2l, 1) := dk_133 (dk_at dksX7_outputByte_0 6 rfl rfl)
theorem dX7_outputByte_7 : decode cX7_outputByte 7 = .ok (.lconst 0, 1) := dk_9 (dk_at dksX7_outputByte_0 7 rfl rfl)
theorem dX7_outputByte_8 : decode cX7_outputByte 8 = .ok (.aload_n 0, 1) := dk_42 (dk_at dksX7_outputByte_0 8 rfl rfl)
theorem dX7_outputByte_9 : decode cX7_outputByte 9 = .ok (.getfield 429, 3) := dk_180 1 173 (dk_at dksX7_outputByte_0 9 rfl rfl)
theorem dX7_outputByte_12 : decode cX7_outputByte 12 = .ok (.iconst 1, 1) := dk_4 (dk_at dksX7_outputByte_0 12 rfl rfl)
theorem dX7_outputByte_13 : decode cX7_outputByte 13 = .ok (.isub, 1) := dk_100 (dk_at dksX7_outputByte_0 13 rfl rfl)
theorem dX7_outputByte_14 : decode cX7_outputByte 14 = .ok (.i2l, 1) := dk_133 (dk_at dksX7_outputByte_0 14 rfl rfl)
theorem dX7_outputByte_15 : decode cX7_outputByte 15 = .ok (.invokestatic 144, 3) := dk_184 0 144 (dk_at dksX7_outputByte_0 15 rfl rfl)
theorem dX7_outputByte_18 : decode cX7_outputByte 18 = .ok (.ifCond .eq 12, 3) := dk_153 0 12 (dk_at dksX7_outputByte_0 18 rfl rfl)
theorem dX7_outputByte_21 : decode cX7_outputByte 21 = .ok (.aload_n 0, 1) := dk_42 (dk_at dksX7_outputByte_0 21 rfl rfl)
theorem dX7_outputByte_22 : decode cX7_outputByte 22 = .ok (.getfield 58, 3) := dk_180 0 58 (dk_at dksX7_outputByte_1 0 rfl rfl)
theorem dX7_outputByte_25 : decode cX7_outputByte 25 = .ok (.iload_n 1, 1) := dk_27 (dk_at dksX7_outputByte_1 3 rfl rfl)
theorem dX7_outputByte_26 : decode cX7_outputByte 26 = .ok (.iaload, 1) := dk_46 (dk_at dksX7_outputByte_1 4 rfl rfl)
theorem dX7_outputByte_27 : decode cX7_outputByte 27 = .ok (.goto 4, 3) := dk_167 0 4 (dk_at dksX7_outputByte_1 5 rfl rfl)
theorem dX7_outputByte_30 : decode cX7_outputByte 30 = .ok (.iconst (-1), 1) := dk_2 (dk_at dksX7_outputByte_1 8 rfl rfl)
theorem dX7_outputByte_31 : decode cX7_outputByte 31 = .ok (.ireturn, 1) := dk_172 (dk_at dksX7_outputByte_1 9 rfl rfl)
abbrev iX7_outputByte : xM := (yX7_outputByte, cX7_outputByte, 2, (some .int), [])
theorem mX7_outputByte : xOkM iX7_outputByte := ⟨by decide +kernel, by decide, q4227, q175⟩

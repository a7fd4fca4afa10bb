set_option maxRecDepth 100000
abbrev cX1_init : ByteArray := prog_1_method_8_code
def yX1_init : MethodName := ⟨RX1, "<init>", "()V"⟩
def dkwX1_init_1 : List UInt8 := [181, 0, 66, 42, 2, 181, 0, 70, 42, 187, 0, 74, 89, 183, 0, 76, 181, 0, 77, 177]
abbrev dktX1_init_1 : List UInt8 := dkwX1_init_1 ++ []
def dkwX1_init_0 : List UInt8 := [42, 183, 0, 56, 42, 187, 0, 51, 89, 184, 0, 59, 183, 0, 63, 181, 0, 46, 42, 17, 3, 32, 188, 8]
abbrev dktX1_init_0 : List UInt8 := dkwX1_init_0 ++ dktX1_init_1
theorem dksX1_init_0 : cX1_init.data.toList.drop 0 = dktX1_init_0 := by decide +kernel
theorem dksX1_init_1 : cX1_init.data.toList.drop 24 = dktX1_init_1 := dk_seg dksX1_init_0 24 rfl rfl
theorem dX1_init_0 : decode cX1_init 0 = .ok (.aload_n 0, 1) := dk_42 (dk_at dksX1_init_0 0 rfl rfl)
theorem dX1_init_1 : decode cX1_init 1 = .ok (.invokespecial 56, 3) := dk_183 0 56 (dk_at dksX1_init_0 1 rfl rfl)
theorem dX1_init_4 : decode cX1_init 4 = .ok (.aload_n 0, 1) := dk_42 (dk_at dksX1_init_0 4 rfl rfl)
theorem dX1_init_5 : decode cX1_init 5 = .ok (.new 51, 3) := dk_187 0 51 (dk_at dksX1_init_0 5 rfl rfl)
theorem dX1_init_8 : decode cX1_init 8 = .ok (.dup, 1) := dk_89 (dk_at dksX1_init_0 8 rfl rfl)
theorem dX1_init_9 : decode cX1_init 9 = .ok (.invokestatic 59, 3) := dk_184 0 59 (dk_at dksX1_init_0 9 rfl rfl)
theorem dX1_init_12 : decode cX1_init 12 = .ok (.invokespecial 63, 3) := dk_183 0 63 (dk_at dksX1_init_0 12 rfl rfl)
theorem dX1_init_15 : decode cX1_init 15 = .ok (.putfield 46, 3) := dk_181 0 46 (dk_at dksX1_init_0 15 rfl rfl)
theorem dX1_init_18 : decode cX1_init 18 = .ok (.aload_n 0, 1) := dk_42 (dk_at dksX1_init_0 18 rfl rfl)
theorem dX1_init_19 : decode cX1_init 19 = .ok (.sipush 800, 3) := dk_17 3 32 (dk_at dksX1_init_0 19 rfl rfl)
theorem dX1_init_22 : decode cX1_init 22 = .ok (.newarray .byte, 2) := dk_188_8 (dk_at dksX1_init_0 22 rfl rfl)
theorem dX1_init_24 : decode cX1_init 24 = .ok (.putfield 66, 3) := dk_181 0 66 (dk_at dksX1_init_1 0 rfl rfl)
theorem dX1_init_27 : decode cX1_init 27 = .ok (.aload_n 0, 1) := dk_42 (dk_at dksX1_init_1 3 rfl rfl)
theorem dX1_init_28 : decode cX1_init 28 = .ok (.iconst (-1), 1) := dk_2 (dk_at dksX1_init_1 4 rfl rfl)
theorem dX1_init_29 : decode cX1_init 29 = .ok (.putfield 70, 3) := dk_181 0 70 (dk_at dksX1_init_1 5 rfl rfl)
theorem dX1_init_32 : decode cX1_init 32 = .ok (.aload_n 0, 1) := dk_42 (dk_at dksX1_init_1 8 rfl rfl)
theorem dX1_init_33 : decode cX1_init 33 = .ok (.new 74, 3) := dk_187 0 74 (dk_at dksX1_init_1 9 rfl rfl)
theorem dX1_init_36 : decode cX1_init 36 = .ok (.dup, 1) := dk_89 (dk_at dksX1_init_1 12 rfl rfl)
theorem dX1_init_37 : decode cX1_init 37 = .ok (.invokespecial 76, 3) := dk_183 0 76 (dk_at dksX1_init_1 13 rfl rfl)
theorem dX1_init_40 : decode cX1_init 40 = .ok (.putfield 77, 3) := dk_181 0 77 (dk_at dksX1_init_1 16 rfl rfl)
theorem dX1_init_43 : decode cX1_init 43 = .ok (.return_, 1) := dk_177 (dk_at dksX1_init_1 19 rfl rfl)
abbrev iX1_init : xM := (yX1_init, cX1_init, 1, none, [])
theorem mX1_init : xOkM iX1_init := ⟨by decide +kernel, by decide, q202, q130⟩
abbrev cX1_firstHall : ByteArray := prog_1_method_5_code
def yX1_firstHall : MethodName := ⟨RX1, "firstHall", "()LFiddleRow$Hall;"⟩
def dkwX1_firstHall_11 : List UInt8 := [16, 9, 79, 184, 0, 32, 182, 0, 36, 42, 176]
abbrev dktX1_firstHall_11 : List UInt8 := dkwX1_firstHall_11 ++ []
def dkwX1_firstHall_10 : List UInt8 := [184, 0, 32, 7, 188, 10, 89, 3, 16, 9, 79, 89, 4, 16, 9, 79, 89, 5, 16, 9, 79, 89, 6]
abbrev dktX1_firstHall_10 : List UInt8 := dkwX1_firstHall_10 ++ dktX1_firstHall_11
def dkwX1_firstHall_9 : List UInt8 := [18, 44, 7, 7, 188, 10, 89, 3, 17, 255, 76, 79, 89, 4, 3, 79, 89, 5, 6, 79, 89, 6, 3, 79]
abbrev dktX1_firstHall_9 : List UInt8 := dkwX1_firstHall_9 ++ dktX1_firstHall_10
def dkwX1_firstHall_8 : List UInt8 := [79, 89, 4, 16, 9, 79, 89, 5, 16, 9, 79, 89, 6, 16, 9, 79, 184, 0, 32, 182, 0, 36, 42]
abbrev dktX1_firstHall_8 : List UInt8 := dkwX1_firstHall_8 ++ dktX1_firstHall_9
def dkwX1_firstHall_7 : List UInt8 := [79, 89, 4, 16, 226, 79, 89, 5, 5, 79, 89, 6, 4, 79, 184, 0, 32, 7, 188, 10, 89, 3, 16, 9]
abbrev dktX1_firstHall_7 : List UInt8 := dkwX1_firstHall_7 ++ dktX1_firstHall_8
def dkwX1_firstHall_6 : List UInt8 := [89, 5, 5, 79, 89, 6, 7, 79, 184, 0, 32, 182, 0, 36, 42, 18, 42, 7, 7, 188, 10, 89, 3, 2]
abbrev dktX1_firstHall_6 : List UInt8 := dkwX1_firstHall_6 ++ dktX1_firstHall_7
def dkwX1_firstHall_5 : List UInt8 := [16, 252, 79, 89, 6, 16, 12, 79, 184, 0, 32, 7, 188, 10, 89, 3, 16, 9, 79, 89, 4, 16, 8, 79]
abbrev dktX1_firstHall_5 : List UInt8 := dkwX1_firstHall_5 ++ dktX1_firstHall_6
def dkwX1_firstHall_4 : List UInt8 := [184, 0, 32, 182, 0, 36, 42, 18, 40, 5, 7, 188, 10, 89, 3, 8, 79, 89, 4, 5, 79, 89, 5]
abbrev dktX1_firstHall_4 : List UInt8 := dkwX1_firstHall_4 ++ dktX1_firstHall_5
def dkwX1_firstHall_3 : List UInt8 := [7, 188, 10, 89, 3, 16, 9, 79, 89, 4, 16, 9, 79, 89, 5, 16, 9, 79, 89, 6, 16, 9, 79]
abbrev dktX1_firstHall_3 : List UInt8 := dkwX1_firstHall_3 ++ dktX1_firstHall_4
def dkwX1_firstHall_2 : List UInt8 := [7, 7, 188, 10, 89, 3, 3, 79, 89, 4, 4, 79, 89, 5, 16, 253, 79, 89, 6, 5, 79, 184, 0, 32]
abbrev dktX1_firstHall_2 : List UInt8 := dkwX1_firstHall_2 ++ dktX1_firstHall_3
def dkwX1_firstHall_1 : List UInt8 := [79, 89, 5, 5, 79, 89, 6, 6, 79, 76, 43, 3, 42, 180, 0, 18, 3, 7, 184, 0, 24, 42, 18, 30]
abbrev dktX1_firstHall_1 : List UInt8 := dkwX1_firstHall_1 ++ dktX1_firstHall_2
def dkwX1_firstHall_0 : List UInt8 := [187, 0, 13, 89, 16, 18, 16, 21, 6, 5, 183, 0, 15, 75, 7, 188, 10, 89, 3, 4, 79, 89, 4, 4]
abbrev dktX1_firstHall_0 : List UInt8 := dkwX1_firstHall_0 ++ dktX1_firstHall_1
theorem dksX1_firstHall_0 : cX1_firstHall.data.toList.drop 0 = dktX1_firstHall_0 := by decide +kernel
theorem dksX1_firstHall_1 : cX1_firstHall.data.toList.drop 24 = dktX1_firstHall_1 := dk_seg dksX1_firstHall_0 24 rfl rfl
theorem dksX1_firstHall_2 : cX1_firstHall.data.toList.drop 48 = dktX1_firstHall_2 := dk_seg dksX1_firstHall_1 24 rfl rfl
theorem dksX1_firstHall_3 : cX1_firstHall.data.toList.drop 72 = dktX1_firstHall_3 := dk_seg dksX1_firstHall_2 24 rfl rfl
theorem dksX1_firstHall_4 : cX1_firstHall.data.toList.drop 95 = dktX1_firstHall_4 := dk_seg dksX1_firstHall_3 23 rfl rfl
theorem dksX1_firstHall_5 : cX1_firstHall.data.toList.drop 118 = dktX1_firstHall_5 := dk_seg dksX1_firstHall_4 23 rfl rfl
theorem dksX1_firstHall_6 : cX1_firstHall.data.toList.drop 142 = dktX1_firstHall_6 := dk_seg dksX1_firstHall_5 24 rfl rfl
theorem dksX1_firstHall_7 : cX1_firstHall.data.toList.drop 166 = dktX1_firstHall_7 := dk_seg dksX1_firstHall_6 24 rfl rfl
theorem dksX1_firstHall_8 : cX1_firstHall.data.toList.drop 190 = dktX1_firstHall_8 := dk_seg dksX1_firstHall_7 24 rfl rfl
theorem dksX1_firstHall_9 : cX1_firstHall.data.toList.drop 213 = dktX1_firstHall_9 := dk_seg dksX1_firstHall_8 23 rfl rfl
theorem dksX1_firstHall_10 : cX1_firstHall.data.toList.drop 237 = dktX1_firstHall_10 := dk_seg dksX1_firstHall_9 24 rfl rfl
theorem dksX1_firstHall_11 : cX1_firstHall.data.toList.drop 260 = dktX1_firstHall_11 := dk_seg dksX1_firstHall_10 23 rfl rfl
theorem dX1_firstHall_0 : decode cX1_firstHall 0 = .ok (.new 13, 3) := dk_187 0 13 (dk_at dksX1_firstHall_0 0 rfl rfl)
theorem dX1_firstHall_3 : decode cX1_firstHall 3 = .ok (.dup, 1) := dk_89 (dk_at dksX1_firstHall_0 3 rfl rfl)
theorem dX1_firstHall_4 : decode cX1_firstHall 4 = .ok (.bipush 18, 2) := dk_16 18 (dk_at dksX1_firstHall_0 4 rfl rfl)
theorem dX1_firstHall_6 : decode cX1_firstHall 6 = .ok (.bipush 21, 2) := dk_16 21 (dk_at dksX1_firstHall_0 6 rfl rfl)
theorem dX1_firstHall_8 : decode cX1_firstHall 8 = .ok (.iconst 3, 1) := dk_6 (dk_at dksX1_firstHall_0 8 rfl rfl)
theorem dX1_firstHall_9 : decode cX1_firstHall 9 = .ok (.iconst 2, 1) := dk_5 (dk_at dksX1_firstHall_0 9 rfl rfl)
theorem dX1_firstHall_10 : decode cX1_firstHall 10 = .ok (.invokespecial 15, 3) := dk_183 0 15 (dk_at dksX1_firstHall_0 10 rfl rfl)
theorem dX1_firstHall_13 : decode cX1_firstHall 13 = .ok (.astore_n 0, 1) := dk_75 (dk_at dksX1_firstHall_0 13 rfl rfl)
theorem dX1_firstHall_14 : decode cX1_firstHall 14 = .ok (.iconst 4, 1) := dk_7 (dk_at dksX1_firstHall_0 14 rfl rfl)
theorem dX1_firstHall_15 : decode cX1_firstHall 15 = .ok (.newarray .int, 2) := dk_188_10 (dk_at dksX1_firstHall_0 15 rfl rfl)
theorem dX1_firstHall_17 : decode cX1_firstHall 17 = .ok (.dup, 1) := dk_89 (dk_at dksX1_firstHall_0 17 rfl rfl)
theorem dX1_firstHall_18 : decode cX1_firstHall 18 = .ok (.iconst 0, 1) := dk_3 (dk_at dksX1_firstHall_0 18 rfl rfl)
theorem dX1_firstHall_19 : decode cX1_firstHall 19 = .ok (.iconst 1, 1) := dk_4 (dk_at dksX1_firstHall_0 19 rfl rfl)
theorem dX1_firstHall_20 : decode cX1_firstHall 20 = .ok (.iastore, 1) := dk_79 (dk_at dksX1_firstHall_0 20 rfl rfl)
theorem dX1_firstHall_21 : decode cX1_firstHall 21 = .ok (.dup, 1) := dk_89 (dk_at dksX1_firstHall_0 21 rfl rfl)
theorem dX1_firstHall_22 : decode cX1_firstHall 22 = .ok (.iconst 1, 1) := dk_4 (dk_at dksX1_firstHall_0 22 rfl rfl)
theorem dX1_firstHall_23 : decode cX1_firstHall 23 = .ok (.iconst 1, 1) := dk_4 (dk_at dksX1_firstHall_0 23 rfl rfl)
theorem dX1_firstHall_24 : decode cX1_firstHall 24 = .ok (.iastore, 1) := dk_79 (dk_at dksX1_firstHall_1 0 rfl rfl)
theorem dX1_firstHall_25 : decode cX1_firstHall 25 = .ok (.dup, 1) := dk_89 (dk_at dksX1_firstHall_1 1 rfl rfl)
theorem dX1_firstHall_26 : decode cX1_firstHall 26 = .ok (.iconst 2, 1) := dk_5 (dk_at dksX1_firstHall_1 2 rfl rfl)
theorem dX1_firstHall_27 : decode cX1_firstHall 27 = .ok (.iconst 2, 1) := dk_5 (dk_at dksX1_firstHall_1 3 rfl rfl)
theorem dX1_firstHall_28 : decode cX1_firstHall 28 = .ok (.iastore, 1) := dk_79 (dk_at dksX1_firstHall_1 4 rfl rfl)
theorem dX1_firstHall_29 : decode cX1_firstHall 29 = .ok (.dup, 1) := dk_89 (dk_at dksX1_firstHall_1 5 rfl rfl)
theorem dX1_firstHall_30 : decode cX1_firstHall 30 = .ok (.iconst 3, 1) := dk_6 (dk_at dksX1_firstHall_1 6 rfl rfl)
theorem dX1_firstHall_31 : decode cX1_firstHall 31 = .ok (.iconst 3, 1) := dk_6 (dk_at dksX1_firstHall_1 7 rfl rfl)
theorem dX1_firstHall_32 : decode cX1_firstHall 32 = .ok (.iastore, 1) := dk_79 (dk_at dksX1_firstHall_1 8 rfl rfl)
theorem dX1_firstHall_33 : decode cX1_firstHall 33 = .ok (.astore_n 1, 1) := dk_76 (dk_at dksX1_firstHall_1 9 rfl rfl)
theorem dX1_firstHall_34 : decode cX1_firstHall 34 = .ok (.aload_n 1, 1) := dk_43 (dk_at dksX1_firstHall_1 10 rfl rfl)
theorem dX1_firstHall_35 : decode cX1_firstHall 35 = .ok (.iconst 0, 1) := dk_3 (dk_at dksX1_firstHall_1 11 rfl rfl)
theorem dX1_firstHall_36 : decode cX1_firstHall 36 = .ok (.aload_n 0, 1) := dk_42 (dk_at dksX1_firstHall_1 12 rfl rfl)
theorem dX1_firstHall_37 : decode cX1_firstHall 37 = .ok (.getfield 18, 3) := dk_180 0 18 (dk_at dksX1_firstHall_1 13 rfl rfl)
theorem dX1_firstHall_40 : decode cX1_firstHall 40 = .ok (.iconst 0, 1) := dk_3 (dk_at dksX1_firstHall_1 16 rfl rfl)
theorem dX1_firstHall_41 : decode cX1_firstHall 41 = .ok (.iconst 4, 1) := dk_7 (dk_at dksX1_firstHall_1 17 rfl rfl)
theorem dX1_firstHall_42 : decode cX1_firstHall 42 = .ok (.invokestatic 24, 3) := dk_184 0 24 (dk_at dksX1_firstHall_1 18 rfl rfl)
theorem dX1_firstHall_45 : decode cX1_firstHall 45 = .ok (.aload_n 0, 1) := dk_42 (dk_at dksX1_firstHall_1 21 rfl rfl)
theorem dX1_firstHall_46 : decode cX1_firstHall 46 = .ok (.ldc 30, 2) := dk_18 30 (dk_at dksX1_firstHall_1 22 rfl rfl)
theorem dX1_firstHall_48 : decode cX1_firstHall 48 = .ok (.iconst 4, 1) := dk_7 (dk_at dksX1_firstHall_2 0 rfl rfl)
theorem dX1_firstHall_49 : decode cX1_firstHall 49 = .ok (.iconst 4, 1) := dk_7 (dk_at dksX1_firstHall_2 1 rfl rfl)
theorem dX1_firstHall_50 : decode cX1_firstHall 50 = .ok (.newarray .int, 2) := dk_188_10 (dk_at dksX1_firstHall_2 2 rfl rfl)
theorem dX1_firstHall_52 : decode cX1_firstHall 52 = .ok (.dup, 1) := dk_89 (dk_at dksX1_firstHall_2 4 rfl rfl)
theorem dX1_firstHall_53 : decode cX1_firstHall 53 = .ok (.iconst 0, 1) := dk_3 (dk_at dksX1_firstHall_2 5 rfl rfl)
theorem dX1_firstHall_54 : decode cX1_firstHall 54 = .ok (.iconst 0, 1) := dk_3 (dk_at dksX1_firstHall_2 6 rfl rfl)
theorem dX1_firstHall_55 : decode cX1_firstHall 55 = .ok (.iastore, 1) := dk_79 (dk_at dksX1_firstHall_2 7 rfl rfl)
theorem dX1_firstHall_56 : decode cX1_firstHall 56 = .ok (.dup, 1) := dk_89 (dk_at dksX1_firstHall_2 8 rfl rfl)
theorem dX1_firstHall_57 : decode cX1_firstHall 57 = .ok (.iconst 1, 1) := dk_4 (dk_at dksX1_firstHall_2 9 rfl rfl)
theorem dX1_firstHall_58 : decode cX1_firstHall 58 = .ok (.iconst 1, 1) := dk_4 (dk_at dksX1_firstHall_2 10 rfl rfl)
theorem dX1_firstHall_59 : decode cX1_firstHall 59 = .ok (.iastore, 1) := dk_79 (dk_at dksX1_firstHall_2 11 rfl rfl)
theorem dX1_firstHall_60 : decode cX1_firstHall 60 = .ok (.dup, 1) := dk_89 (dk_at dksX1_firstHall_2 12 rfl rfl)
theorem dX1_firstHall_61 : decode cX1_firstHall 61 = .ok (.iconst 2, 1) := dk_5 (dk_at dksX1_firstHall_2 13 rfl rfl)
theorem dX1_firstHall_62 : decode cX1_firstHall 62 = .ok (.bipush (-3), 2) := dk_16 253 (dk_at dksX1_firstHall_2 14 rfl rfl)
theorem dX1_firstHall_64 : decode cX1_firstHall 64 = .ok (.iastore, 1) := dk_79 (dk_at dksX1_firstHall_2 16 rfl rfl)
theorem dX1_firstHall_65 : decode cX1_firstHall 65 = .ok (.dup, 1) := dk_89 (dk_at dksX1_firstHall_2 17 rfl rfl)
theorem dX1_firstHall_66 : decode cX1_firstHall 66 = .ok (.iconst 3, 1) := dk_6 (dk_at dksX1_firstHall_2 18 rfl rfl)
theorem dX1_firstHall_67 : decode cX1_firstHall 67 = .ok (.iconst 2, 1) := dk_5 (dk_at dksX1_firstHall_2 19 rfl rfl)
theorem dX1_firstHall_68 : decode cX1_firstHall 68 = .ok (.iastore, 1) := dk_79 (dk_at dksX1_firstHall_2 20 rfl rfl)
theorem dX1_firstHall_69 : decode cX1_firstHall 69 = .ok (.invokestatic 32, 3) := dk_184 0 32 (dk_at dksX1_firstHall_2 21 rfl rfl)
theorem dX1_firstHall_72 : decode cX1_firstHall 72 = .ok (.iconst 4, 1) := dk_7 (dk_at dksX1_firstHall_3 0 rfl rfl)
theorem dX1_firstHall_73 : decode cX1_firstHall 73 = .ok (.newarray .int, 2) := dk_188_10 (dk_at dksX1_firstHall_3 1 rfl rfl)
theorem dX1_firstHall_75 : decode cX1_firstHall 75 = .ok (.dup, 1) := dk_89 (dk_at dksX1_firstHall_3 3 rfl rfl)
theorem dX1_firstHall_76 : decode cX1_firstHall 76 = .ok (.iconst 0, 1) := dk_3 (dk_at dksX1_firstHall_3 4 rfl rfl)
theorem dX1_firstHall_77 : decode cX1_firstHall 77 = .ok (.bipush 9, 2) := dk_16 9 (dk_at dksX1_firstHall_3 5 rfl rfl)
theorem dX1_firstHall_79 : decode cX1_firstHall 79 = .ok (.iastore, 1) := dk_79 (dk_at dksX1_firstHall_3 7 rfl rfl)
theorem dX1_firstHall_80 : decode cX1_firstHall 80 = .ok (.dup, 1) := dk_89 (dk_at dksX1_firstHall_3 8 rfl rfl)
theorem dX1_firstHall_81 : decode cX1_firstHall 81 = .ok (.iconst 1, 1) := dk_4 (dk_at dksX1_firstHall_3 9 rfl rfl)
theorem dX1_firstHall_82 : decode cX1_firstHall 82 = .ok (.bipush 9, 2) := dk_16 9 (dk_at dksX1_firstHall_3 10 rfl rfl)
theorem dX1_firstHall_84 : decode cX1_firstHall 84 = .ok (.iastore, 1) := dk_79 (dk_at dksX1_firstHall_3 12 rfl rfl)
theorem dX1_firstHall_85 : decode cX1_firstHall 85 = .ok (.dup, 1) := dk_89 (dk_at dksX1_firstHall_3 13 rfl rfl)
theorem dX1_firstHall_86 : decode cX1_firstHall 86 = .ok (.iconst 2, 1) := dk_5 (dk_at dksX1_firstHall_3 14 rfl rfl)
theorem dX1_firstHall_87 : decode cX1_firstHall 87 = .ok (.bipush 9, 2) := dk_16 9 (dk_at dksX1_firstHall_3 15 rfl rfl)
theorem dX1_firstHall_89 : decode cX1_firstHall 89 = .ok (.iastore, 1) := dk_79 (dk_at dksX1_firstHall_3 17 rfl rfl)
theorem dX1_firstHall_90 : decode cX1_firstHall 90 = .ok (.dup, 1) := dk_89 (dk_at dksX1_firstHall_3 18 rfl rfl)
theorem dX1_firstHall_91 : decode cX1_firstHall 91 = .ok (.iconst 3, 1) := dk_6 (dk_at dksX1_firstHall_3 19 rfl rfl)
theorem dX1_firstHall_92 : decode cX1_firstHall 92 = .ok (.bipush 9, 2) := dk_16 9 (dk_at dksX1_firstHall_3 20 rfl rfl)
theorem dX1_firstHall_94 : decode cX1_firstHall 94 = .ok (.iastore, 1) := dk_79 (dk_at dksX1_firstHall_3 22 rfl rfl)
theorem dX1_firstHall_95 : decode cX1_firstHall 95 = .ok (.invokestatic 32, 3) := dk_184 0 32 (dk_at dksX1_firstHall_4 0 rfl rfl)
theorem dX1_firstHall_98 : decode cX1_firstHall 98 = .ok (.invokevirtual 36, 3) := dk_182 0 36 (dk_at dksX1_firstHall_4 3 rfl rfl)
theorem dX1_firstHall_101 : decode cX1_firstHall 101 = .ok (.aload_n 0, 1) := dk_42 (dk_at dksX1_firstHall_4 6 rfl rfl)
theorem dX1_firstHall_102 : decode cX1_firstHall 102 = .ok (.ldc 40, 2) := dk_18 40 (dk_at dksX1_firstHall_4 7 rfl rfl)
theorem dX1_firstHall_104 : decode cX1_firstHall 104 = .ok (.iconst 2, 1) := dk_5 (dk_at dksX1_firstHall_4 9 rfl rfl)
theorem dX1_firstHall_105 : decode cX1_firstHall 105 = .ok (.iconst 4, 1) := dk_7 (dk_at dksX1_firstHall_4 10 rfl rfl)
theorem dX1_firstHall_106 : decode cX1_firstHall 106 = .ok (.newarray .int, 2) := dk_188_10 (dk_at dksX1_firstHall_4 11 rfl rfl)
theorem dX1_firstHall_108 : decode cX1_firstHall 108 = .ok (.dup, 1) := dk_89 (dk_at dksX1_firstHall_4 13 rfl rfl)
theorem dX1_firstHall_109 : decode cX1_firstHall 109 = .ok (.iconst 0, 1) := dk_3 (dk_at dksX1_firstHall_4 14 rfl rfl)
theorem dX1_firstHall_110 : decode cX1_firstHall 110 = .ok (.iconst 5, 1) := dk_8 (dk_at dksX1_firstHall_4 15 rfl rfl)
theorem dX1_firstHall_111 : decode cX1_firstHall 111 = .ok (.iastore, 1) := dk_79 (dk_at dksX1_firstHall_4 16 rfl rfl)
theorem dX1_firstHall_112 : decode cX1_firstHall 112 = .ok (.dup, 1) := dk_89 (dk_at dksX1_firstHall_4 17 rfl rfl)
theorem dX1_firstHall_113 : decode cX1_firstHall 113 = .ok (.iconst 1, 1) := dk_4 (dk_at dksX1_firstHall_4 18 rfl rfl)
theorem dX1_firstHall_114 : decode cX1_firstHall 114 = .ok (.iconst 2, 1) := dk_5 (dk_at dksX1_firstHall_4 19 rfl rfl)
theorem dX1_firstHall_115 : decode cX1_firstHall 115 = .ok (.iastore, 1) := dk_79 (dk_at dksX1_firstHall_4 20 rfl rfl)
theorem dX1_firstHall_116 : decode cX1_firstHall 116 = .ok (.dup, 1) := dk_89 (dk_at dksX1_firstHall_4 21 rfl rfl)
theorem dX1_firstHall_117 : decode cX1_firstHall 117 = .ok (.iconst 2, 1) := dk_5 (dk_at dksX1_firstHall_4 22 rfl rfl)
theorem dX1_firstHall_118 : decode cX1_firstHall 118 = .ok (.bipush (-4), 2) := dk_16 252 (dk_at dksX1_firstHall_5 0 rfl rfl)
theorem dX1_firstHall_120 : decode cX1_firstHall 120 = .ok (.iastore, 1) := dk_79 (dk_at dksX1_firstHall_5 2 rfl rfl)
theorem dX1_firstHall_121 : decode cX1_firstHall 121 = .ok (.dup, 1) := dk_89 (dk_at dksX1_firstHall_5 3 rfl rfl)
theorem dX1_firstHall_122 : decode cX1_firstHall 122 = .ok (.iconst 3, 1) := dk_6 (dk_at dksX1_firstHall_5 4 rfl rfl)
theorem dX1_firstHall_123 : decode cX1_firstHall 123 = .ok (.bipush 12, 2) := dk_16 12 (dk_at dksX1_firstHall_5 5 rfl rfl)
theorem dX1_firstHall_125 : decode cX1_firstHall 125 = .ok (.iastore, 1) := dk_79 (dk_at dksX1_firstHall_5 7 rfl rfl)
theorem dX1_firstHall_126 : decode cX1_firstHall 126 = .ok (.invokestatic 32, 3) := dk_184 0 32 (dk_at dksX1_firstHall_5 8 rfl rfl)
theorem dX1_firstHall_129 : decode cX1_firstHall 129 = .ok (.iconst 4, 1) := dk_7 (dk_at dksX1_firstHall_5 11 rfl rfl)
theorem dX1_firstHall_130 : decode cX1_firstHall 130 = .ok (.newarray .int, 2) := dk_188_10 (dk_at dksX1_firstHall_5 12 rfl rfl)
theorem dX1_firstHall_132 : decode cX1_firstHall 132 = .ok (.dup, 1) := dk_89 (dk_at dksX1_firstHall_5 14 rfl rfl)
theorem dX1_firstHall_133 : decode cX1_firstHall 133 = .ok (.iconst 0, 1) := dk_3 (dk_at dksX1_firstHall_5 15 rfl rfl)
theorem dX1_firstHall_134 : decode cX1_firstHall 134 = .ok (.bipush 9, 2) := dk_16 9 (dk_at dksX1_firstHall_5 16 rfl rfl)
theorem dX1_firstHall_136 : decode cX1_firstHall 136 = .ok (.iastore, 1) := dk_79 (dk_at dksX1_firstHall_5 18 rfl rfl)
theorem dX1_firstHall_137 : decode cX1_firstHall 137 = .ok (.dup, 1) := dk_89 (dk_at dksX1_firstHall_5 19 rfl rfl)
theorem dX1_firstHall_138 : decode cX1_firstHall 138 = .ok (.iconst 1, 1) := dk_4 (dk_at dksX1_firstHall_5 20 rfl rfl)
theorem dX1_firstHall_139 : decode cX1_firstHall 139 = .ok (.bipush 8, 2) := dk_16 8 (dk_at dksX1_firstHall_5 21 rfl rfl)
theorem dX1_firstHall_141 : decode cX1_firstHall 141 = .ok (.iastore, 1) := dk_79 (dk_at dksX1_firstHall_5 23 rfl rfl)
theorem dX1_firstHall_142 : decode cX1_firstHall 142 = .ok (.dup, 1) := dk_89 (dk_at dksX1_firstHall_6 0 rfl rfl)
theorem dX1_firstHall_143 : decode cX1_firstHall 143 = .ok (.iconst 2, 1) := dk_5 (dk_at dksX1_firstHall_6 1 rfl rfl)
theorem dX1_firstHall_144 : decode cX1_firstHall 144 = .ok (.iconst 2, 1) := dk_5 (dk_at dksX1_firstHall_6 2 rfl rfl)
theorem dX1_firstHall_145 : decode cX1_firstHall 145 = .ok (.iastore, 1) := dk_79 (dk_at dksX1_firstHall_6 3 rfl rfl)
theorem dX1_firstHall_146 : decode cX1_firstHall 146 = .ok (.dup, 1) := dk_89 (dk_at dksX1_firstHall_6 4 rfl rfl)
theorem dX1_firstHall_147 : decode cX1_firstHall 147 = .ok (.iconst 3, 1) := dk_6 (dk_at dksX1_firstHall_6 5 rfl rfl)
theorem dX1_firstHall_148 : decode cX1_firstHall 148 = .ok (.iconst 4, 1) := dk_7 (dk_at dksX1_firstHall_6 6 rfl rfl)
theorem dX1_firstHall_149 : decode cX1_firstHall 149 = .ok (.iastore, 1) := dk_79 (dk_at dksX1_firstHall_6 7 rfl rfl)
theorem dX1_firstHall_150 : decode cX1_firstHall 150 = .ok (.invokestatic 32, 3) := dk_184 0 32 (dk_at dksX1_firstHall_6 8 rfl rfl)
theorem dX1_firstHall_153 : decode cX1_firstHall 153 = .ok (.invokevirtual 36, 3) := dk_182 0 36 (dk_at dksX1_firstHall_6 11 rfl rfl)
theorem dX1_firstHall_156 : decode cX1_firstHall 156 = .ok (.aload_n 0, 1) := dk_42 (dk_at dksX1_firstHall_6 14 rfl rfl)
theorem dX1_firstHall_157 : decode cX1_firstHall 157 = .ok (.ldc 42, 2) := dk_18 42 (dk_at dksX1_firstHall_6 15 rfl rfl)
theorem dX1_firstHall_159 : decode cX1_firstHall 159 = .ok (.iconst 4, 1) := dk_7 (dk_at dksX1_firstHall_6 17 rfl rfl)
theorem dX1_firstHall_160 : decode cX1_firstHall 160 = .ok (.iconst 4, 1) := dk_7 (dk_at dksX1_firstHall_6 18 rfl rfl)
theorem dX1_firstHall_161 : decode cX1_firstHall 161 = .ok (.newarray .int, 2) := dk_188_10 (dk_at dksX1_firstHall_6 19 rfl rfl)
theorem dX1_firstHall_163 : decode cX1_firstHall 163 = .ok (.dup, 1) := dk_89 (dk_at dksX1_firstHall_6 21 rfl rfl)
theorem dX1_firstHall_164 : decode cX1_firstHall 164 = .ok (.iconst 0, 1) := dk_3 (dk_at dksX1_firstHall_6 22 rfl rfl)
theorem dX1_firstHall_165 : decode cX1_firstHall 165 = .ok (.iconst (-1), 1) := dk_2 (dk_at dksX1_firstHall_6 23 rfl rfl)
theorem dX1_firstHall_166 : decode cX1_firstHall 166 = .ok (.iastore, 1) := dk_79 (dk_at dksX1_firstHall_7 0 rfl rfl)
theorem dX1_firstHall_167 : decode cX1_firstHall 167 = .ok (.dup, 1) := dk_89 (dk_at dksX1_firstHall_7 1 rfl rfl)
theorem dX1_firstHall_168 : decode cX1_firstHall 168 = .ok (.iconst 1, 1) := dk_4 (dk_at dksX1_firstHall_7 2 rfl rfl)
theorem dX1_firstHall_169 : decode cX1_firstHall 169 = .ok (.bipush (-30), 2) := dk_16 226 (dk_at dksX1_firstHall_7 3 rfl rfl)
theorem dX1_firstHall_171 : decode cX1_firstHall 171 = .ok (.iastore, 1) := dk_79 (dk_at dksX1_firstHall_7 5 rfl rfl)
theorem dX1_firstHall_172 : decode cX1_firstHall 172 = .ok (.dup, 1) := dk_89 (dk_at dksX1_firstHall_7 6 rfl rfl)
theorem dX1_firstHall_173 : decode cX1_firstHall 173 = .ok (.iconst 2, 1) := dk_5 (dk_at dksX1_firstHall_7 7 rfl rfl)
theorem dX1_firstHall_174 : decode cX1_firstHall 174 = .ok (.iconst 2, 1) := dk_5 (dk_at dksX1_firstHall_7 8 rfl rfl)
theorem dX1_firstHall_175 : decode cX1_firstHall 175 = .ok (.iastore, 1) := dk_79 (dk_at dksX1_firstHall_7 9 rfl rfl)
theorem dX1_firstHall_176 : decode cX1_firstHall 176 = .ok (.dup, 1) := dk_89 (dk_at dksX1_firstHall_7 10 rfl rfl)
theorem dX1_firstHall_177 : decode cX1_firstHall 177 = .ok (.iconst 3, 1) := dk_6 (dk_at dksX1_firstHall_7 11 rfl rfl)
theorem dX1_firstHall_178 : decode cX1_firstHall 178 = .ok (.iconst 1, 1) := dk_4 (dk_at dksX1_firstHall_7 12 rfl rfl)
theorem dX1_firstHall_179 : decode cX1_firstHall 179 = .ok (.iastore, 1) := dk_79 (dk_at dksX1_firstHall_7 13 rfl rfl)
theorem dX1_firstHall_180 : decode cX1_firstHall 180 = .ok (.invokestatic 32, 3) := dk_184 0 32 (dk_at dksX1_firstHall_7 14 rfl rfl)
theorem dX1_firstHall_183 : decode cX1_firstHall 183 = .ok (.iconst 4, 1) := dk_7 (dk_at dksX1_firstHall_7 17 rfl rfl)
theorem dX1_firstHall_184 : decode cX1_firstHall 184 = .ok (.newarray .int, 2) := dk_188_10 (dk_at dksX1_firstHall_7 18 rfl rfl)
theorem dX1_firstHall_186 : decode cX1_firstHall 186 = .ok (.dup, 1) := dk_89 (dk_at dksX1_firstHall_7 20 rfl rfl)
theorem dX1_firstHall_187 : decode cX1_firstHall 187 = .ok (.iconst 0, 1) := dk_3 (dk_at dksX1_firstHall_7 21 rfl rfl)
theorem dX1_firstHall_188 : decode cX1_firstHall 188 = .ok (.bipush 9, 2) := dk_16 9 (dk_at dksX1_firstHall_7 22 rfl rfl)
theorem dX1_firstHall_190 : decode cX1_firstHall 190 = .ok (.iastore, 1) := dk_79 (dk_at dksX1_firstHall_8 0 rfl rfl)
theorem dX1_firstHall_191 : decode cX1_firstHall 191 = .ok (.dup, 1) := dk_89 (dk_at dksX1_firstHall_8 1 rfl rfl)
theorem dX1_firstHall_192 : decode cX1_firstHall 192 = .ok (.iconst 1, 1) := dk_4 (dk_at dksX1_firstHall_8 2 rfl rfl)
theorem dX1_firstHall_193 : decode cX1_firstHall 193 = .ok (.bipush 9, 2) := dk_16 9 (dk_at dksX1_firstHall_8 3 rfl rfl)
theorem dX1_firstHall_195 : decode cX1_firstHall 195 = .ok (.iastore, 1) := dk_79 (dk_at dksX1_firstHall_8 5 rfl rfl)
theorem dX1_firstHall_196 : decode cX1_firstHall 196 = .ok (.dup, 1) := dk_89 (dk_at dksX1_firstHall_8 6 rfl rfl)
theorem dX1_firstHall_197 : decode cX1_firstHall 197 = .ok (.iconst 2, 1) := dk_5 (dk_at dksX1_firstHall_8 7 rfl rfl)
theorem dX1_firstHall_198 : decode cX1_firstHall 198 = .ok (.bipush 9, 2) := dk_16 9 (dk_at dksX1_firstHall_8 8 rfl rfl)
theorem dX1_firstHall_200 : decode cX1_firstHall 200 = .ok (.iastore, 1) := dk_79 (dk_at dksX1_firstHall_8 10 rfl rfl)
theorem dX1_firstHall_201 : decode cX1_firstHall 201 = .ok (.dup, 1) := dk_89 (dk_at dksX1_firstHall_8 11 rfl rfl)
theorem dX1_firstHall_202 : decode cX1_firstHall 202 = .ok (.iconst 3, 1) := dk_6 (dk_at dksX1_firstHall_8 12 rfl rfl)
theorem dX1_firstHall_203 : decode cX1_firstHall 203 = .ok (.bipush 9, 2) := dk_16 9 (dk_at dksX1_firstHall_8 13 rfl rfl)
theorem dX1_firstHall_205 : decode cX1_firstHall 205 = .ok (.iastore, 1) := dk_79 (dk_at dksX1_firstHall_8 15 rfl rfl)
theorem dX1_firstHall_206 : decode cX1_firstHall 206 = .ok (.invokestatic 32, 3) := dk_184 0 32 (dk_at dksX1_firstHall_8 16 rfl rfl)
theorem dX1_firstHall_209 : decode cX1_firstHall 209 = .ok (.invokevirtual 36, 3) := dk_182 0 36 (dk_at dksX1_firstHall_8 19 rfl rfl)
theorem dX1_firstHall_212 : decode cX1_firstHall 212 = .ok (.aload_n 0, 1) := dk_42 (dk_at dksX1_firstHall_8 22 rfl rfl)
theorem dX1_firstHall_213 : decode cX1_firstHall 213 = .ok (.ldc 44, 2) := dk_18 44 (dk_at dksX1_firstHall_9 0 rfl rfl)
theorem dX1_firstHall_215 : decode cX1_firstHall 215 = .ok (.iconst 4, 1) := dk_7 (dk_at dksX1_firstHall_9 2 rfl rfl)
theorem dX1_firstHall_216 : decode cX1_firstHall 216 = .ok (.iconst 4, 1) := dk_7 (dk_at dksX1_firstHall_9 3 rfl rfl)
theorem dX1_firstHall_217 : decode cX1_firstHall 217 = .ok (.newarray .int, 2) := dk_188_10 (dk_at dksX1_firstHall_9 4 rfl rfl)
theorem dX1_firstHall_219 : decode cX1_firstHall 219 = .ok (.dup, 1) := dk_89 (dk_at dksX1_firstHall_9 6 rfl rfl)
theorem dX1_firstHall_220 : decode cX1_firstHall 220 = .ok (.iconst 0, 1) := dk_3 (dk_at dksX1_firstHall_9 7 rfl rfl)
theorem dX1_firstHall_221 : decode cX1_firstHall 221 = .ok (.sipush (-180), 3) := dk_17 255 76 (dk_at dksX1_firstHall_9 8 rfl rfl)
theorem dX1_firstHall_224 : decode cX1_firstHall 224 = .ok (.iastore, 1) := dk_79 (dk_at dksX1_firstHall_9 11 rfl rfl)
theorem dX1_firstHall_225 : decode cX1_firstHall 225 = .ok (.dup, 1) := dk_89 (dk_at dksX1_firstHall_9 12 rfl rfl)
theorem dX1_firstHall_226 : decode cX1_firstHall 226 = .ok (.iconst 1, 1) := dk_4 (dk_at dksX1_firstHall_9 13 rfl rfl)
theorem dX1_firstHall_227 : decode cX1_firstHall 227 = .ok (.iconst 0, 1) := dk_3 (dk_at dksX1_firstHall_9 14 rfl rfl)
theorem dX1_firstHall_228 : decode cX1_firstHall 228 = .ok (.iastore, 1) := dk_79 (dk_at dksX1_firstHall_9 15 rfl rfl)
theorem dX1_firstHall_229 : decode cX1_firstHall 229 = .ok (.dup, 1) := dk_89 (dk_at dksX1_firstHall_9 16 rfl rfl)
theorem dX1_firstHall_230 : decode cX1_firstHall 230 = .ok (.iconst 2, 1) := dk_5 (dk_at dksX1_firstHall_9 17 rfl rfl)
theorem dX1_firstHall_231 : decode cX1_firstHall 231 = .ok (.iconst 3, 1) := dk_6 (dk_at dksX1_firstHall_9 18 rfl rfl)
theorem dX1_firstHall_232 : decode cX1_firstHall 232 = .ok (.iastore, 1) := dk_79 (dk_at dksX1_firstHall_9 19 rfl rfl)
theorem dX1_firstHall_233 : decode cX1_firstHall 233 = .ok (.dup, 1) := dk_89 (dk_at dksX1_firstHall_9 20 rfl rfl)
theorem dX1_firstHall_234 : decode cX1_firstHall 234 = .ok (.iconst 3, 1) := dk_6 (dk_at dksX1_firstHall_9 21 rfl rfl)
theorem dX1_firstHall_235 : decode cX1_firstHall 235 = .ok (.iconst 0, 1) := dk_3 (dk_at dksX1_firstHall_9 22 rfl rfl)
theorem dX1_firstHall_236 : decode cX1_firstHall 236 = .ok (.iastore, 1) := dk_79 (dk_at dksX1_firstHall_9 23 rfl rfl)
theorem dX1_firstHall_237 : decode cX1_firstHall 237 = .ok (.invokestatic 32, 3) := dk_184 0 32 (dk_at dksX1_firstHall_10 0 rfl rfl)
theorem dX1_firstHall_240 : decode cX1_firstHall 240 = .ok (.iconst 4, 1) := dk_7 (dk_at dksX1_firstHall_10 3 rfl rfl)
theorem dX1_firstHall_241 : decode cX1_firstHall 241 = .ok (.newarray .int, 2) := dk_188_10 (dk_at dksX1_firstHall_10 4 rfl rfl)
theorem dX1_firstHall_243 : decode cX1_firstHall 243 = .ok (.dup, 1) := dk_89 (dk_at dksX1_firstHall_10 6 rfl rfl)
theorem dX1_firstHall_244 : decode cX1_firstHall 244 = .ok (.iconst 0, 1) := dk_3 (dk_at dksX1_firstHall_10 7 rfl rfl)
theorem dX1_firstHall_245 : decode cX1_firstHall 245 = .ok (.bipush 9, 2) := dk_16 9 (dk_at dksX1_firstHall_10 8 rfl rfl)
theorem dX1_firstHall_247 : decode cX1_firstHall 247 = .ok (.iastore, 1) := dk_79 (dk_at dksX1_firstHall_10 10 rfl rfl)
theorem dX1_firstHall_248 : decode cX1_firstHall 248 = .ok (.dup, 1) := dk_89 (dk_at dksX1_firstHall_10 11 rfl rfl)
theorem dX1_firstHall_249 : decode cX1_firstHall 249 = .ok (.iconst 1, 1) := dk_4 (dk_at dksX1_firstHall_10 12 rfl rfl)
theorem dX1_firstHall_250 : decode cX1_firstHall 250 = .ok (.bipush 9, 2) := dk_16 9 (dk_at dksX1_firstHall_10 13 rfl rfl)
theorem dX1_firstHall_252 : decode cX1_firstHall 252 = .ok (.iastore, 1) := dk_79 (dk_at dksX1_firstHall_10 15 rfl rfl)
theorem dX1_firstHall_253 : decode cX1_firstHall 253 = .ok (.dup, 1) := dk_89 (dk_at dksX1_firstHall_10 16 rfl rfl)
theorem dX1_firstHall_254 : decode cX1_firstHall 254 = .ok (.iconst 2, 1) := dk_5 (dk_at dksX1_firstHall_10 17 rfl rfl)
theorem dX1_firstHall_255 : decode cX1_firstHall 255 = .ok (.bipush 9, 2) := dk_16 9 (dk_at dksX1_firstHall_10 18 rfl rfl)
theorem dX1_firstHall_257 : decode cX1_firstHall 257 = .ok (.iastore, 1) := dk_79 (dk_at dksX1_firstHall_10 20 rfl rfl)
theorem dX1_firstHall_258 : decode cX1_firstHall 258 = .ok (.dup, 1) := dk_89 (dk_at dksX1_firstHall_10 21 rfl rfl)
theorem dX1_firstHall_259 : decode cX1_firstHall 259 = .ok (.iconst 3, 1) := dk_6 (dk_at dksX1_firstHall_10 22 rfl rfl)
theorem dX1_firstHall_260 : decode cX1_firstHall 260 = .ok (.bipush 9, 2) := dk_16 9 (dk_at dksX1_firstHall_11 0 rfl rfl)
theorem dX1_firstHall_262 : decode cX1_firstHall 262 = .ok (.iastore, 1) := dk_79 (dk_at dksX1_firstHall_11 2 rfl rfl)
theorem dX1_firstHall_263 : decode cX1_firstHall 263 = .ok (.invokestatic 32, 3) := dk_184 0 32 (dk_at dksX1_firstHall_11 3 rfl rfl)
theorem dX1_firstHall_266 : decode cX1_firstHall 266 = .ok (.invokevirtual 36, 3) := dk_182 0 36 (dk_at dksX1_firstHall_11 6 rfl rfl)
theorem dX1_firstHall_269 : decode cX1_firstHall 269 = .ok (.aload_n 0, 1) := dk_42 (dk_at dksX1_firstHall_11 9 rfl rfl)
theorem dX1_firstHall_270 : decode cX1_firstHall 270 = .ok (.areturn, 1) := dk_176 (dk_at dksX1_firstHall_11 10 rfl rfl)
abbrev iX1_firstHall : xM := (yX1_firstHall, cX1_firstHall, 2, (some (.object "FiddleRow$Hall")), [])
theorem mX1_firstHall : xOkM iX1_firstHall := ⟨by decide +kernel, by decide, q210, q130⟩
abbrev cX1_cents : ByteArray := prog_1_method_6_code
def yX1_cents : MethodName := ⟨RX1, "cents", "([I)[I"⟩
theorem dX1_cents_0 : decode cX1_cents 0 = .ok (.aload_n 0, 1) := by decide +kernel
theorem dX1_cents_1 : decode cX1_cents 1 = .ok (.areturn, 1) := by decide +kernel
abbrev iX1_cents : xM := (yX1_cents, cX1_cents, 1, (some (.array .int)), [])
theorem mX1_cents : xOkM iX1_cents := ⟨by decide +kernel, by decide, q1234, q130⟩
abbrev cX1_load : ByteArray := prog_1_method_17_code
def yX1_load : MethodName := ⟨RX1, "load", "()I"⟩
def dkwX1_load_1 : List UInt8 := [182, 0, 143, 172, 76, 42, 43, 180, 0, 149, 43, 180, 0, 149, 43, 180, 0, 152, 182, 0, 143, 172]
abbrev dktX1_load_1 : List UInt8 := dkwX1_load_1 ++ []
def dkwX1_load_0 : List UInt8 := [42, 180, 0, 46, 187, 0, 132, 89, 42, 183, 0, 134, 182, 0, 137, 182, 0, 140, 42, 3, 3, 2]
abbrev dktX1_load_0 : List UInt8 := dkwX1_load_0 ++ dktX1_load_1
theorem dksX1_load_0 : cX1_load.data.toList.drop 0 = dktX1_load_0 := by decide +kernel
theorem dksX1_load_1 : cX1_load.data.toList.drop 22 = dktX1_load_1 := dk_seg dksX1_load_0 22 rfl rfl
theorem dX1_load_0 : decode cX1_load 0 = .ok (.aload_n 0, 1) := dk_42 (dk_at dksX1_load_0 0 rfl rfl)
theorem dX1_load_1 : decode cX1_load 1 = .ok (.getfield 46, 3) := dk_180 0 46 (dk_at dksX1_load_0 1 rfl rfl)
theorem dX1_load_4 : decode cX1_load 4 = .ok (.new 132, 3) := dk_187 0 132 (dk_at dksX1_load_0 4 rfl rfl)
theorem dX1_load_7 : decode cX1_load 7 = .ok (.dup, 1) := dk_89 (dk_at dksX1_load_0 7 rfl rfl)
theorem dX1_load_8 : decode cX1_load 8 = .ok (.aload_n 0, 1) := dk_42 (dk_at dksX1_load_0 8 rfl rfl)
theorem dX1_load_9 : decode cX1_load 9 = .ok (.invokespecial 134, 3) := dk_183 0 134 (dk_at dksX1_load_0 9 rfl rfl)
theorem dX1_load_12 : decode cX1_load 12 = .ok (.invokevirtual 137, 3) := dk_182 0 137 (dk_at dksX1_load_0 12 rfl rfl)
theorem dX1_load_15 : decode cX1_load 15 = .ok (.invokevirtual 140, 3) := dk_182 0 140 (dk_at dksX1_load_0 15 rfl rfl)
theorem dX1_load_18 : decode cX1_load 18 = .ok (.aload_n 0, 1) := dk_42 (dk_at dksX1_load_0 18 rfl rfl)
theorem dX1_load_19 : decode cX1_load 19 = .ok (.iconst 0, 1) := dk_3 (dk_at dksX1_load_0 19 rfl rfl)
theorem dX1_load_20 : decode cX1_load 20 = .ok (.iconst 0, 1) := dk_3 (dk_at dksX1_load_0 20 rfl rfl)
theorem dX1_load_21 : decode cX1_load 21 = .ok (.iconst (-1), 1) := dk_2 (dk_at dksX1_load_0 21 rfl rfl)
theorem dX1_load_22 : decode cX1_load 22 = .ok (.invokevirtual 143, 3) := dk_182 0 143 (dk_at dksX1_load_1 0 rfl rfl)
theorem dX1_load_25 : decode cX1_load 25 = .ok (.ireturn, 1) := dk_172 (dk_at dksX1_load_1 3 rfl rfl)
theorem dX1_load_26 : decode cX1_load 26 = .ok (.astore_n 1, 1) := dk_76 (dk_at dksX1_load_1 4 rfl rfl)
theorem dX1_load_27 : decode cX1_load 27 = .ok (.aload_n 0, 1) := dk_42 (dk_at dksX1_load_1 5 rfl rfl)
theorem dX1_load_28 : decode cX1_load 28 = .ok (.aload_n 1, 1) := dk_43 (dk_at dksX1_load_1 6 rfl rfl)
theorem dX1_load_29 : decode cX1_load 29 = .ok (.getfield 149, 3) := dk_180 0 149 (dk_at dksX1_load_1 7 rfl rfl)
theorem dX1_load_32 : decode cX1_load 32 = .ok (.aload_n 1, 1) := dk_43 (dk_at dksX1_load_1 10 rfl rfl)
theorem dX1_load_33 : decode cX1_load 33 = .ok (.getfield 149, 3) := dk_180 0 149 (dk_at dksX1_load_1 11 rfl rfl)
theorem dX1_load_36 : decode cX1_load 36 = .ok (.aload_n 1, 1) := dk_43 (dk_at dksX1_load_1 14 rfl rfl)
theorem dX1_load_37 : decode cX1_load 37 = .ok (.getfield 152, 3) := dk_180 0 152 (dk_at dksX1_load_1 15 rfl rfl)
theorem dX1_load_40 : decode cX1_load 40 = .ok (.invokevirtual 143, 3) := dk_182 0 143 (dk_at dksX1_load_1 18 rfl rfl)
theorem dX1_load_43 : decode cX1_load 43 = .ok (.ireturn, 1) := dk_172 (dk_at dksX1_load_1 21 rfl rfl)
abbrev iX1_load : xM := (yX1_load, cX1_load, 2, (some .int), [(0, 25, 26, 147)])
theorem mX1_load : xOkM iX1_load := ⟨by decide +kernel, by decide, q2005, q130⟩
abbrev cX1_isIn : ByteArray := prog_1_method_1_code
def yX1_isIn : MethodName := ⟨RX1, "isIn", "(III)Z"⟩
def dkwX1_isIn_0 : List UInt8 := [26, 27, 161, 0, 12, 26, 28, 163, 0, 7, 4, 167, 0, 4, 3, 172]
abbrev dktX1_isIn_0 : List UInt8 := dkwX1_isIn_0 ++ []
theorem dksX1_isIn_0 : cX1_isIn.data.toList.drop 0 = dktX1_isIn_0 := by decide +kernel
theorem dX1_isIn_0 : decode cX1_isIn 0 = .ok (.iload_n 0, 1) := dk_26 (dk_at dksX1_isIn_0 0 rfl rfl)
theorem dX1_isIn_1 : decode cX1_isIn 1 = .ok (.iload_n 1, 1) := dk_27 (dk_at dksX1_isIn_0 1 rfl rfl)
theorem dX1_isIn_2 : decode cX1_isIn 2 = .ok (.if_icmp .lt 12, 3) := dk_161 0 12 (dk_at dksX1_isIn_0 2 rfl rfl)
theorem dX1_isIn_5 : decode cX1_isIn 5 = .ok (.iload_n 0, 1) := dk_26 (dk_at dksX1_isIn_0 5 rfl rfl)
theorem dX1_isIn_6 : decode cX1_isIn 6 = .ok (.iload_n 2, 1) := dk_28 (dk_at dksX1_isIn_0 6 rfl rfl)
theorem dX1_isIn_7 : decode cX1_isIn 7 = .ok (.if_icmp .gt 7, 3) := dk_163 0 7 (dk_at dksX1_isIn_0 7 rfl rfl)
theorem dX1_isIn_10 : decode cX1_isIn 10 = .ok (.iconst 1, 1) := dk_4 (dk_at dksX1_isIn_0 10 rfl rfl)
theorem dX1_isIn_11 : decode cX1_isIn 11 = .ok (.goto 4, 3) := dk_167 0 4 (dk_at dksX1_isIn_0 11 rfl rfl)
theorem dX1_isIn_14 : decode cX1_isIn 14 = .ok (.iconst 0, 1) := dk_3 (dk_at dksX1_isIn_0 14 rfl rfl)
theorem dX1_isIn_15 : decode cX1_isIn 15 = .ok (.ireturn, 1) := dk_172 (dk_at dksX1_isIn_0 15 rfl rfl)
abbrev iX1_isIn : xM := (yX1_isIn, cX1_isIn, 3, (some .boolean), [])
theorem mX1_isIn : xOkM iX1_isIn := ⟨by decide +kernel, by decide, q2026, q130⟩
abbrev cX1_finish : ByteArray := prog_1_method_14_code
def yX1_finish : MethodName := ⟨RX1, "finish", "(III)I"⟩
def dkwX1_finish_0 : List UInt8 := [42, 3, 181, 0, 81, 42, 28, 181, 0, 111, 42, 29, 181, 0, 70, 27, 172]
abbrev dktX1_finish_0 : List UInt8 := dkwX1_finish_0 ++ []
theorem dksX1_finish_0 : cX1_finish.data.toList.drop 0 = dktX1_finish_0 := by decide +kernel
theorem dX1_finish_0 : decode cX1_finish 0 = .ok (.aload_n 0, 1) := dk_42 (dk_at dksX1_finish_0 0 rfl rfl)
theorem dX1_finish_1 : decode cX1_finish 1 = .ok (.iconst 0, 1) := dk_3 (dk_at dksX1_finish_0 1 rfl rfl)
theorem dX1_finish_2 : decode cX1_finish 2 = .ok (.putfield 81, 3) := dk_181 0 81 (dk_at dksX1_finish_0 2 rfl rfl)
theorem dX1_finish_5 : decode cX1_finish 5 = .ok (.aload_n 0, 1) := dk_42 (dk_at dksX1_finish_0 5 rfl rfl)
theorem dX1_finish_6 : decode cX1_finish 6 = .ok (.iload_n 2, 1) := dk_28 (dk_at dksX1_finish_0 6 rfl rfl)
theorem dX1_finish_7 : decode cX1_finish 7 = .ok (.putfield 111, 3) := dk_181 0 111 (dk_at dksX1_finish_0 7 rfl rfl)
theorem dX1_finish_10 : decode cX1_finish 10 = .ok (.aload_n 0, 1) := dk_42 (dk_at dksX1_finish_0 10 rfl rfl)
theorem dX1_finish_11 : decode cX1_finish 11 = .ok (.iload_n 3, 1) := dk_29 (dk_at dksX1_finish_0 11 rfl rfl)
theorem dX1_finish_12 : decode cX1_finish 12 = .ok (.putfield 70, 3) := dk_181 0 70 (dk_at dksX1_finish_0 12 rfl rfl)
theorem dX1_finish_15 : decode cX1_finish 15 = .ok (.iload_n 1, 1) := dk_27 (dk_at dksX1_finish_0 15 rfl rfl)
theorem dX1_finish_16 : decode cX1_finish 16 = .ok (.ireturn, 1) := dk_172 (dk_at dksX1_finish_0 16 rfl rfl)
abbrev iX1_finish : xM := (yX1_finish, cX1_finish, 4, (some .int), [])
theorem mX1_finish : xOkM iX1_finish := ⟨by decide +kernel, by decide, q2161, q130⟩
abbrev cX1_runScript : ByteArray := prog_1_method_18_code
def yX1_runScript : MethodName := ⟨RX1, "runScript", "()I"⟩
def dkwX1_runScript_2 : List UInt8 := [182, 0, 143, 172, 76, 42, 2, 43, 180, 0, 149, 43, 180, 0, 152, 182, 0, 143, 172]
abbrev dktX1_runScript_2 : List UInt8 := dkwX1_runScript_2 ++ []
def dkwX1_runScript_1 : List UInt8 := [77, 43, 44, 182, 0, 168, 62, 42, 180, 0, 46, 44, 182, 0, 174, 42, 42, 180, 0, 159, 3, 2]
abbrev dktX1_runScript_1 : List UInt8 := dkwX1_runScript_1 ++ dktX1_runScript_2
def dkwX1_runScript_0 : List UInt8 := [187, 0, 132, 89, 42, 183, 0, 134, 182, 0, 155, 76, 42, 3, 181, 0, 159, 42, 182, 0, 162, 182, 0, 165]
abbrev dktX1_runScript_0 : List UInt8 := dkwX1_runScript_0 ++ dktX1_runScript_1
theorem dksX1_runScript_0 : cX1_runScript.data.toList.drop 0 = dktX1_runScript_0 := by decide +kernel
theorem dksX1_runScript_1 : cX1_runScript.data.toList.drop 24 = dktX1_runScript_1 := dk_seg dksX1_runScript_0 24 rfl rfl
theorem dksX1_runScript_2 : cX1_runScript.data.toList.drop 46 = dktX1_runScript_2 := dk_seg dksX1_runScript_1 22 rfl rfl
theorem dX1_runScript_0 : decode cX1_runScript 0 = .ok (.new 132, 3) := dk_187 0 132 (dk_at dksX1_runScript_0 0 rfl rfl)
theorem dX1_runScript_3 : decode cX1_runScript 3 = .ok (.dup, 1) := dk_89 (dk_at dksX1_runScript_0 3 rfl rfl)
theorem dX1_runScript_4 : decode cX1_runScript 4 = .ok (.aload_n 0, 1) := dk_42 (dk_at dksX1_runScript_0 4 rfl rfl)
theorem dX1_runScript_5 : decode cX1_runScript 5 = .ok (.invokespecial 134, 3) := dk_183 0 134 (dk_at dksX1_runScript_0 5 rfl rfl)
theorem dX1_runScript_8 : decode cX1_runScript 8 = .ok (.invokevirtual 155, 3) := dk_182 0 155 (dk_at dksX1_runScript_0 8 rfl rfl)
theorem dX1_runScript_11 : decode cX1_runScript 11 = .ok (.astore_n 1, 1) := dk_76 (dk_at dksX1_runScript_0 11 rfl rfl)
theorem dX1_runScript_12 : decode cX1_runScript 12 = .ok (.aload_n 0, 1) := dk_42 (dk_at dksX1_runScript_0 12 rfl rfl)
theorem dX1_runScript_13 : decode cX1_runScript 13 = .ok (.iconst 0, 1) := dk_3 (dk_at dksX1_runScript_0 13 rfl rfl)
theorem dX1_runScript_14 : decode cX1_runScript 14 = .ok (.putfield 159, 3) := dk_181 0 159 (dk_at dksX1_runScript_0 14 rfl rfl)
theorem dX1_runScript_17 : decode cX1_runScript 17 = .ok (.aload_n 0, 1) := dk_42 (dk_at dksX1_runScript_0 17 rfl rfl)
theorem dX1_runScript_18 : decode cX1_runScript 18 = .ok (.invokevirtual 162, 3) := dk_182 0 162 (dk_at dksX1_runScript_0 18 rfl rfl)
theorem dX1_runScript_21 : decode cX1_runScript 21 = .ok (.invokevirtual 165, 3) := dk_182 0 165 (dk_at dksX1_runScript_0 21 rfl rfl)
theorem dX1_runScript_24 : decode cX1_runScript 24 = .ok (.astore_n 2, 1) := dk_77 (dk_at dksX1_runScript_1 0 rfl rfl)
theorem dX1_runScript_25 : decode cX1_runScript 25 = .ok (.aload_n 1, 1) := dk_43 (dk_at dksX1_runScript_1 1 rfl rfl)
theorem dX1_runScript_26 : decode cX1_runScript 26 = .ok (.aload_n 2, 1) := dk_44 (dk_at dksX1_runScript_1 2 rfl rfl)
theorem dX1_runScript_27 : decode cX1_runScript 27 = .ok (.invokevirtual 168, 3) := dk_182 0 168 (dk_at dksX1_runScript_1 3 rfl rfl)
theorem dX1_runScript_30 : decode cX1_runScript 30 = .ok (.istore_n 3, 1) := dk_62 (dk_at dksX1_runScript_1 6 rfl rfl)
theorem dX1_runScript_31 : decode cX1_runScript 31 = .ok (.aload_n 0, 1) := dk_42 (dk_at dksX1_runScript_1 7 rfl rfl)
theorem dX1_runScript_32 : decode cX1_runScript 32 = .ok (.getfield 46, 3) := dk_180 0 46 (dk_at dksX1_runScript_1 8 rfl rfl)
theorem dX1_runScript_35 : decode cX1_runScript 35 = .ok (.aload_n 2, 1) := dk_44 (dk_at dksX1_runScript_1 11 rfl rfl)
theorem dX1_runScript_36 : decode cX1_runScript 36 = .ok (.invokevirtual 174, 3) := dk_182 0 174 (dk_at dksX1_runScript_1 12 rfl rfl)
theorem dX1_runScript_39 : decode cX1_runScript 39 = .ok (.aload_n 0, 1) := dk_42 (dk_at dksX1_runScript_1 15 rfl rfl)
theorem dX1_runScript_40 : decode cX1_runScript 40 = .ok (.aload_n 0, 1) := dk_42 (dk_at dksX1_runScript_1 16 rfl rfl)
theorem dX1_runScript_41 : decode cX1_runScript 41 = .ok (.getfield 159, 3) := dk_180 0 159 (dk_at dksX1_runScript_1 17 rfl rfl)
theorem dX1_runScript_44 : decode cX1_runScript 44 = .ok (.iconst 0, 1) := dk_3 (dk_at dksX1_runScript_1 20 rfl rfl)
theorem dX1_runScript_45 : decode cX1_runScript 45 = .ok (.iconst (-1), 1) := dk_2 (dk_at dksX1_runScript_1 21 rfl rfl)
theorem dX1_runScript_46 : decode cX1_runScript 46 = .ok (.invokevirtual 143, 3) := dk_182 0 143 (dk_at dksX1_runScript_2 0 rfl rfl)
theorem dX1_runScript_49 : decode cX1_runScript 49 = .ok (.ireturn, 1) := dk_172 (dk_at dksX1_runScript_2 3 rfl rfl)
theorem dX1_runScript_50 : decode cX1_runScript 50 = .ok (.astore_n 1, 1) := dk_76 (dk_at dksX1_runScript_2 4 rfl rfl)
theorem dX1_runScript_51 : decode cX1_runScript 51 = .ok (.aload_n 0, 1) := dk_42 (dk_at dksX1_runScript_2 5 rfl rfl)
theorem dX1_runScript_52 : decode cX1_runScript 52 = .ok (.iconst (-1), 1) := dk_2 (dk_at dksX1_runScript_2 6 rfl rfl)
theorem dX1_runScript_53 : decode cX1_runScript 53 = .ok (.aload_n 1, 1) := dk_43 (dk_at dksX1_runScript_2 7 rfl rfl)
theorem dX1_runScript_54 : decode cX1_runScript 54 = .ok (.getfield 149, 3) := dk_180 0 149 (dk_at dksX1_runScript_2 8 rfl rfl)
theorem dX1_runScript_57 : decode cX1_runScript 57 = .ok (.aload_n 1, 1) := dk_43 (dk_at dksX1_runScript_2 11 rfl rfl)
theorem dX1_runScript_58 : decode cX1_runScript 58 = .ok (.getfield 152, 3) := dk_180 0 152 (dk_at dksX1_runScript_2 12 rfl rfl)
theorem dX1_runScript_61 : decode cX1_runScript 61 = .ok (.invokevirtual 143, 3) := dk_182 0 143 (dk_at dksX1_runScript_2 15 rfl rfl)
theorem dX1_runScript_64 : decode cX1_runScript 64 = .ok (.ireturn, 1) := dk_172 (dk_at dksX1_runScript_2 18 rfl rfl)
abbrev iX1_runScript : xM := (yX1_runScript, cX1_runScript, 4, (some .int), [(0, 49, 50, 147)])
theorem mX1_runScript : xOkM iX1_runScript := ⟨by decide +kernel, by decide, q2165, q130⟩
abbrev cX1_stringNamed : ByteArray := prog_1_method_15_code
def yX1_stringNamed : MethodName := ⟨RX1, "stringNamed", "(Ljava/lang/String;)I"⟩
def dkwX1_stringNamed_6 : List UInt8 := [3, 167, 0, 16, 4, 167, 0, 12, 5, 167, 0, 8, 6, 167, 0, 4, 2, 172]
abbrev dktX1_stringNamed_6 : List UInt8 := dkwX1_stringNamed_6 ++ []
def dkwX1_stringNamed_5 : List UInt8 := [170, 0, 0, 0, 0, 46, 0, 0, 0, 0, 0, 0, 0, 3, 0, 0, 0, 30, 0, 0, 0, 34, 0, 0, 0, 38, 0, 0, 0, 42]
abbrev dktX1_stringNamed_5 : List UInt8 := dkwX1_stringNamed_5 ++ dktX1_stringNamed_6
def dkwX1_stringNamed_4 : List UInt8 := [153, 0, 5, 6, 61, 28]
abbrev dktX1_stringNamed_4 : List UInt8 := dkwX1_stringNamed_4 ++ dktX1_stringNamed_5
def dkwX1_stringNamed_3 : List UInt8 := [61, 167, 0, 28, 43, 18, 128, 182, 0, 122, 153, 0, 19, 5, 61, 167, 0, 14, 43, 18, 130, 182, 0, 122]
abbrev dktX1_stringNamed_3 : List UInt8 := dkwX1_stringNamed_3 ++ dktX1_stringNamed_4
def dkwX1_stringNamed_2 : List UInt8 := [43, 18, 120, 182, 0, 122, 153, 0, 47, 3, 61, 167, 0, 42, 43, 18, 126, 182, 0, 122, 153, 0, 33, 4]
abbrev dktX1_stringNamed_2 : List UInt8 := dkwX1_stringNamed_2 ++ dktX1_stringNamed_3
def dkwX1_stringNamed_1 : List UInt8 := [170, 0, 0, 0, 0, 0, 0, 97, 0, 0, 0, 97, 0, 0, 0, 103, 0, 0, 0, 72, 0, 0, 0, 97, 0, 0, 0, 97, 0, 0, 0, 58, 0, 0, 0, 86, 0, 0, 0, 97, 0, 0, 0, 44]
abbrev dktX1_stringNamed_1 : List UInt8 := dkwX1_stringNamed_1 ++ dktX1_stringNamed_2
def dkwX1_stringNamed_0 : List UInt8 := [42, 76, 2, 61, 43, 182, 0, 114]
abbrev dktX1_stringNamed_0 : List UInt8 := dkwX1_stringNamed_0 ++ dktX1_stringNamed_1
theorem dksX1_stringNamed_0 : cX1_stringNamed.data.toList.drop 0 = dktX1_stringNamed_0 := by decide +kernel
theorem dksX1_stringNamed_1 : cX1_stringNamed.data.toList.drop 8 = dktX1_stringNamed_1 := dk_seg dksX1_stringNamed_0 8 rfl rfl
theorem dksX1_stringNamed_2 : cX1_stringNamed.data.toList.drop 52 = dktX1_stringNamed_2 := dk_seg dksX1_stringNamed_1 44 rfl rfl
theorem dksX1_stringNamed_3 : cX1_stringNamed.data.toList.drop 76 = dktX1_stringNamed_3 := dk_seg dksX1_stringNamed_2 24 rfl rfl
theorem dksX1_stringNamed_4 : cX1_stringNamed.data.toList.drop 100 = dktX1_stringNamed_4 := dk_seg dksX1_stringNamed_3 24 rfl rfl
theorem dksX1_stringNamed_5 : cX1_stringNamed.data.toList.drop 106 = dktX1_stringNamed_5 := dk_seg dksX1_stringNamed_4 6 rfl rfl
theorem dksX1_stringNamed_6 : cX1_stringNamed.data.toList.drop 136 = dktX1_stringNamed_6 := dk_seg dksX1_stringNamed_5 30 rfl rfl
theorem dX1_stringNamed_0 : decode cX1_stringNamed 0 = .ok (.aload_n 0, 1) := dk_42 (dk_at dksX1_stringNamed_0 0 rfl rfl)
theorem dX1_stringNamed_1 : decode cX1_stringNamed 1 = .ok (.astore_n 1, 1) := dk_76 (dk_at dksX1_stringNamed_0 1 rfl rfl)
theorem dX1_stringNamed_2 : decode cX1_stringNamed 2 = .ok (.iconst (-1), 1) := dk_2 (dk_at dksX1_stringNamed_0 2 rfl rfl)
theorem dX1_stringNamed_3 : decode cX1_stringNamed 3 = .ok (.istore_n 2, 1) := dk_61 (dk_at dksX1_stringNamed_0 3 rfl rfl)
theorem dX1_stringNamed_4 : decode cX1_stringNamed 4 = .ok (.aload_n 1, 1) := dk_43 (dk_at dksX1_stringNamed_0 4 rfl rfl)
theorem dX1_stringNamed_5 : decode cX1_stringNamed 5 = .ok (.invokevirtual 114, 3) := dk_182 0 114 (dk_at dksX1_stringNamed_0 5 rfl rfl)
theorem dX1_stringNamed_8 : decode cX1_stringNamed 8 = .ok (.tableswitch 97 97 103 #[72, 97, 97, 58, 86, 97, 44], 44) := by decide +kernel
theorem dX1_stringNamed_52 : decode cX1_stringNamed 52 = .ok (.aload_n 1, 1) := dk_43 (dk_at dksX1_stringNamed_2 0 rfl rfl)
theorem dX1_stringNamed_53 : decode cX1_stringNamed 53 = .ok (.ldc 120, 2) := dk_18 120 (dk_at dksX1_stringNamed_2 1 rfl rfl)
theorem dX1_stringNamed_55 : decode cX1_stringNamed 55 = .ok (.invokevirtual 122, 3) := dk_182 0 122 (dk_at dksX1_stringNamed_2 3 rfl rfl)
theorem dX1_stringNamed_58 : decode cX1_stringNamed 58 = .ok (.ifCond .eq 47, 3) := dk_153 0 47 (dk_at dksX1_stringNamed_2 6 rfl rfl)
theorem dX1_stringNamed_61 : decode cX1_stringNamed 61 = .ok (.iconst 0, 1) := dk_3 (dk_at dksX1_stringNamed_2 9 rfl rfl)
theorem dX1_stringNamed_62 : decode cX1_stringNamed 62 = .ok (.istore_n 2, 1) := dk_61 (dk_at dksX1_stringNamed_2 10 rfl rfl)
theorem dX1_stringNamed_63 : decode cX1_stringNamed 63 = .ok (.goto 42, 3) := dk_167 0 42 (dk_at dksX1_stringNamed_2 11 rfl rfl)
theorem dX1_stringNamed_66 : decode cX1_stringNamed 66 = .ok (.aload_n 1, 1) := dk_43 (dk_at dksX1_stringNamed_2 14 rfl rfl)
theorem dX1_stringNamed_67 : decode cX1_stringNamed 67 = .ok (.ldc 126, 2) := dk_18 126 (dk_at dksX1_stringNamed_2 15 rfl rfl)
theorem dX1_stringNamed_69 : decode cX1_stringNamed 69 = .ok (.invokevirtual 122, 3) := dk_182 0 122 (dk_at dksX1_stringNamed_2 17 rfl rfl)
theorem dX1_stringNamed_72 : decode cX1_stringNamed 72 = .ok (.ifCond .eq 33, 3) := dk_153 0 33 (dk_at dksX1_stringNamed_2 20 rfl rfl)
theorem dX1_stringNamed_75 : decode cX1_stringNamed 75 = .ok (.iconst 1, 1) := dk_4 (dk_at dksX1_stringNamed_2 23 rfl rfl)
theorem dX1_stringNamed_76 : decode cX1_stringNamed 76 = .ok (.istore_n 2, 1) := dk_61 (dk_at dksX1_stringNamed_3 0 rfl rfl)
theorem dX1_stringNamed_77 : decode cX1_stringNamed 77 = .ok (.goto 28, 3) := dk_167 0 28 (dk_at dksX1_stringNamed_3 1 rfl rfl)
theorem dX1_stringNamed_80 : decode cX1_stringNamed 80 = .ok (.aload_n 1, 1) := dk_43 (dk_at dksX1_stringNamed_3 4 rfl rfl)
theorem dX1_stringNamed_81 : decode cX1_stringNamed 81 = .ok (.ldc 128, 2) := dk_18 128 (dk_at dksX1_stringNamed_3 5 rfl rfl)
theorem dX1_stringNamed_83 : decode cX1_stringNamed 83 = .ok (.invokevirtual 122, 3) := dk_182 0 122 (dk_at dksX1_stringNamed_3 7 rfl rfl)
theorem dX1_stringNamed_86 : decode cX1_stringNamed 86 = .ok (.ifCond .eq 19, 3) := dk_153 0 19 (dk_at dksX1_stringNamed_3 10 rfl rfl)
theorem dX1_stringNamed_89 : decode cX1_stringNamed 89 = .ok (.iconst 2, 1) := dk_5 (dk_at dksX1_stringNamed_3 13 rfl rfl)
theorem dX1_stringNamed_90 : decode cX1_stringNamed 90 = .ok (.istore_n 2, 1) := dk_61 (dk_at dksX1_stringNamed_3 14 rfl rfl)
theorem dX1_stringNamed_91 : decode cX1_stringNamed 91 = .ok (.goto 14, 3) := dk_167 0 14 (dk_at dksX1_stringNamed_3 15 rfl rfl)
theorem dX1_stringNamed_94 : decode cX1_stringNamed 94 = .ok (.aload_n 1, 1) := dk_43 (dk_at dksX1_stringNamed_3 18 rfl rfl)
theorem dX1_stringNamed_95 : decode cX1_stringNamed 95 = .ok (.ldc 130, 2) := dk_18 130 (dk_at dksX1_stringNamed_3 19 rfl rfl)
theorem dX1_stringNamed_97 : decode cX1_stringNamed 97 = .ok (.invokevirtual 122, 3) := dk_182 0 122 (dk_at dksX1_stringNamed_3 21 rfl rfl)
theorem dX1_stringNamed_100 : decode cX1_stringNamed 100 = .ok (.ifCond .eq 5, 3) := dk_153 0 5 (dk_at dksX1_stringNamed_4 0 rfl rfl)
theorem dX1_stringNamed_103 : decode cX1_stringNamed 103 = .ok (.iconst 3, 1) := dk_6 (dk_at dksX1_stringNamed_4 3 rfl rfl)
theorem dX1_stringNamed_104 : decode cX1_stringNamed 104 = .ok (.istore_n 2, 1) := dk_61 (dk_at dksX1_stringNamed_4 4 rfl rfl)
theorem dX1_stringNamed_105 : decode cX1_stringNamed 105 = .ok (.iload_n 2, 1) := dk_28 (dk_at dksX1_stringNamed_4 5 rfl rfl)
theorem dX1_stringNamed_106 : decode cX1_stringNamed 106 = .ok (.tableswitch 46 0 3 #[30, 34, 38, 42], 30) := by decide +kernel
theorem dX1_stringNamed_136 : decode cX1_stringNamed 136 = .ok (.iconst 0, 1) := dk_3 (dk_at dksX1_stringNamed_6 0 rfl rfl)
theorem dX1_stringNamed_137 : decode cX1_stringNamed 137 = .ok (.goto 16, 3) := dk_167 0 16 (dk_at dksX1_stringNamed_6 1 rfl rfl)
theorem dX1_stringNamed_140 : decode cX1_stringNamed 140 = .ok (.iconst 1, 1) := dk_4 (dk_at dksX1_stringNamed_6 4 rfl rfl)
theorem dX1_stringNamed_141 : decode cX1_stringNamed 141 = .ok (.goto 12, 3) := dk_167 0 12 (dk_at dksX1_stringNamed_6 5 rfl rfl)
theorem dX1_stringNamed_144 : decode cX1_stringNamed 144 = .ok (.iconst 2, 1) := dk_5 (dk_at dksX1_stringNamed_6 8 rfl rfl)
theorem dX1_stringNamed_145 : decode cX1_stringNamed 145 = .ok (.goto 8, 3) := dk_167 0 8 (dk_at dksX1_stringNamed_6 9 rfl rfl)
theorem dX1_stringNamed_148 : decode cX1_stringNamed 148 = .ok (.iconst 3, 1) := dk_6 (dk_at dksX1_stringNamed_6 12 rfl rfl)
theorem dX1_stringNamed_149 : decode cX1_stringNamed 149 = .ok (.goto 4, 3) := dk_167 0 4 (dk_at dksX1_stringNamed_6 13 rfl rfl)
theorem dX1_stringNamed_152 : decode cX1_stringNamed 152 = .ok (.iconst (-1), 1) := dk_2 (dk_at dksX1_stringNamed_6 16 rfl rfl)
theorem dX1_stringNamed_153 : decode cX1_stringNamed 153 = .ok (.ireturn, 1) := dk_172 (dk_at dksX1_stringNamed_6 17 rfl rfl)
abbrev iX1_stringNamed : xM := (yX1_stringNamed, cX1_stringNamed, 3, (some .int), [])
theorem mX1_stringNamed : xOkM iX1_stringNamed := ⟨by decide +kernel, by decide, q2224, q130⟩
abbrev cX1_hall : ByteArray := prog_1_method_7_code
def yX1_hall : MethodName := ⟨RX1, "hall", "()LFiddleRow$Hall;"⟩
def dkwX1_hall_0 : List UInt8 := [42, 180, 0, 46, 180, 0, 50, 192, 0, 13, 176]
abbrev dktX1_hall_0 : List UInt8 := dkwX1_hall_0 ++ []
theorem dksX1_hall_0 : cX1_hall.data.toList.drop 0 = dktX1_hall_0 := by decide +kernel
theorem dX1_hall_0 : decode cX1_hall 0 = .ok (.aload_n 0, 1) := dk_42 (dk_at dksX1_hall_0 0 rfl rfl)
theorem dX1_hall_1 : decode cX1_hall 1 = .ok (.getfield 46, 3) := dk_180 0 46 (dk_at dksX1_hall_0 1 rfl rfl)
theorem dX1_hall_4 : decode cX1_hall 4 = .ok (.getfield 50, 3) := dk_180 0 50 (dk_at dksX1_hall_0 4 rfl rfl)
theorem dX1_hall_7 : decode cX1_hall 7 = .ok (.checkcast 13, 3) := dk_192 0 13 (dk_at dksX1_hall_0 7 rfl rfl)
theorem dX1_hall_10 : decode cX1_hall 10 = .ok (.areturn, 1) := dk_176 (dk_at dksX1_hall_0 10 rfl rfl)
abbrev iX1_hall : xM := (yX1_hall, cX1_hall, 1, (some (.object "FiddleRow$Hall")), [])
theorem mX1_hall : xOkM iX1_hall := ⟨by decide +kernel, by decide, q2259, q130⟩
abbrev cX1_checkIndex : ByteArray := prog_1_method_2_code
def yX1_checkIndex : MethodName := ⟨RX1, "checkIndex", "(Z)V"⟩
def dkwX1_checkIndex_0 : List UInt8 := [26, 154, 0, 11, 187, 0, 1, 89, 183, 0, 3, 191, 177]
abbrev dktX1_checkIndex_0 : List UInt8 := dkwX1_checkIndex_0 ++ []
theorem dksX1_checkIndex_0 : cX1_checkIndex.data.toList.drop 0 = dktX1_checkIndex_0 := by decide +kernel
theorem dX1_checkIndex_0 : decode cX1_checkIndex 0 = .ok (.iload_n 0, 1) := dk_26 (dk_at dksX1_checkIndex_0 0 rfl rfl)
theorem dX1_checkIndex_1 : decode cX1_checkIndex 1 = .ok (.ifCond .ne 11, 3) := dk_154 0 11 (dk_at dksX1_checkIndex_0 1 rfl rfl)
theorem dX1_checkIndex_4 : decode cX1_checkIndex 4 = .ok (.new 1, 3) := dk_187 0 1 (dk_at dksX1_checkIndex_0 4 rfl rfl)
theorem dX1_checkIndex_7 : decode cX1_checkIndex 7 = .ok (.dup, 1) := dk_89 (dk_at dksX1_checkIndex_0 7 rfl rfl)
theorem dX1_checkIndex_8 : decode cX1_checkIndex 8 = .ok (.invokespecial 3, 3) := dk_183 0 3 (dk_at dksX1_checkIndex_0 8 rfl rfl)
theorem dX1_checkIndex_11 : decode cX1_checkIndex 11 = .ok (.athrow, 1) := dk_191 (dk_at dksX1_checkIndex_0 11 rfl rfl)
theorem dX1_checkIndex_12 : decode cX1_checkIndex 12 = .ok (.return_, 1) := dk_177 (dk_at dksX1_checkIndex_0 12 rfl rfl)
abbrev iX1_checkIndex : xM := (yX1_checkIndex, cX1_checkIndex, 1, none, [])
theorem mX1_checkIndex : xOkM iX1_checkIndex := ⟨by decide +kernel, by decide, q2722, q130⟩
abbrev cX1_checkArgument : ByteArray := prog_1_method_3_code
def yX1_checkArgument : MethodName := ⟨RX1, "checkArgument", "(Z)V"⟩
def dkwX1_checkArgument_0 : List UInt8 := [26, 154, 0, 11, 187, 0, 7, 89, 183, 0, 9, 191, 177]
abbrev dktX1_checkArgument_0 : List UInt8 := dkwX1_checkArgument_0 ++ []
theorem dksX1_checkArgument_0 : cX1_checkArgument.data.toList.drop 0 = dktX1_checkArgument_0 := by decide +kernel
theorem dX1_checkArgument_0 : decode cX1_checkArgument 0 = .ok (.iload_n 0, 1) := dk_26 (dk_at dksX1_checkArgument_0 0 rfl rfl)
theorem dX1_checkArgument_1 : decode cX1_checkArgument 1 = .ok (.ifCond .ne 11, 3) := dk_154 0 11 (dk_at dksX1_checkArgument_0 1 rfl rfl)
theorem dX1_checkArgument_4 : decode cX1_checkArgument 4 = .ok (.new 7, 3) := dk_187 0 7 (dk_at dksX1_checkArgument_0 4 rfl rfl)
theorem dX1_checkArgument_7 : decode cX1_checkArgument 7 = .ok (.dup, 1) := dk_89 (dk_at dksX1_checkArgument_0 7 rfl rfl)
theorem dX1_checkArgument_8 : decode cX1_checkArgument 8 = .ok (.invokespecial 9, 3) := dk_183 0 9 (dk_at dksX1_checkArgument_0 8 rfl rfl)
theorem dX1_checkArgument_11 : decode cX1_checkArgument 11 = .ok (.athrow, 1) := dk_191 (dk_at dksX1_checkArgument_0 11 rfl rfl)
theorem dX1_checkArgument_12 : decode cX1_checkArgument 12 = .ok (.return_, 1) := dk_177 (dk_at dksX1_checkArgument_0 12 rfl rfl)
abbrev iX1_checkArgument : xM := (yX1_checkArgument, cX1_checkArgument, 1, none, [])
theorem mX1_checkArgument : xOkM iX1_checkArgument := ⟨by decide +kernel, by decide, q2746, q130⟩
abbrev cX1_checkState : ByteArray := prog_1_method_4_code
def yX1_checkState : MethodName := ⟨RX1, "checkState", "(Z)V"⟩
def dkwX1_checkState_0 : List UInt8 := [26, 154, 0, 11, 187, 0, 10, 89, 183, 0, 12, 191, 177]
abbrev dktX1_checkState_0 : List UInt8 := dkwX1_checkState_0 ++ []
theorem dksX1_checkState_0 : cX1_checkState.data.toList.drop 0 = dktX1_checkState_0 := by decide +kernel
theorem dX1_checkState_0 : decode cX1_checkState 0 = .ok (.iload_n 0, 1) := dk_26 (dk_at dksX1_checkState_0 0 rfl rfl)
theorem dX1_checkState_1 : decode cX1_checkState 1 = .ok (.ifCond .ne 11, 3) := dk_154 0 11 (dk_at dksX1_checkState_0 1 rfl rfl)
theorem dX1_checkState_4 : decode cX1_checkState 4 = .ok (.new 10, 3) := dk_187 0 10 (dk_at dksX1_checkState_0 4 rfl rfl)
theorem dX1_checkState_7 : decode cX1_checkState 7 = .ok (.dup, 1) := dk_89 (dk_at dksX1_checkState_0 7 rfl rfl)
theorem dX1_checkState_8 : decode cX1_checkState 8 = .ok (.invokespecial 12, 3) := dk_183 0 12 (dk_at dksX1_checkState_0 8 rfl rfl)
theorem dX1_checkState_11 : decode cX1_checkState 11 = .ok (.athrow, 1) := dk_191 (dk_at dksX1_checkState_0 11 rfl rfl)
theorem dX1_checkState_12 : decode cX1_checkState 12 = .ok (.return_, 1) := dk_177 (dk_at dksX1_checkState_0 12 rfl rfl)
abbrev iX1_checkState : xM := (yX1_checkState, cX1_checkState, 1, none, [])
theorem mX1_checkState : xOkM iX1_checkState := ⟨by decide +kernel, by decide, q2754, q130⟩
abbrev cX1_errorCode : ByteArray := prog_1_method_19_code
def yX1_errorCode : MethodName := ⟨RX1, "errorCode", "()I"⟩
theorem dX1_errorCode_0 : decode cX1_errorCode 0 = .ok (.aload_n 0, 1) := by decide +kernel
theorem dX1_errorCode_1 : decode cX1_errorCode 1 = .ok (.getfield 111, 3) := by decide +kernel
theorem dX1_errorCode_4 : decode cX1_errorCode 4 = .ok (.ireturn, 1) := by decide +kernel
abbrev iX1_errorCode : xM := (yX1_errorCode, cX1_errorCode, 1, (some .int), [])
theorem mX1_errorCode : xOkM iX1_errorCode := ⟨by decide +kernel, by decide, q2872, q130⟩
abbrev cX1_errorPosition : ByteArray := prog_1_method_20_code
def yX1_errorPosition : MethodName := ⟨RX1, "errorPosition", "()I"⟩
theorem dX1_errorPosition_0 : decode cX1_errorPosition 0 = .ok (.aload_n 0, 1) := by decide +kernel
theorem dX1_errorPosition_1 : decode cX1_errorPosition 1 = .ok (.getfield 70, 3) := by decide +kernel
theorem dX1_errorPosition_4 : decode cX1_errorPosition 4 = .ok (.ireturn, 1) := by decide +kernel
abbrev iX1_errorPosition : xM := (yX1_errorPosition, cX1_errorPosition, 1, (some .int), [])
theorem mX1_errorPosition : xOkM iX1_errorPosition := ⟨by decide +kernel, by decide, q2876, q130⟩
abbrev cX1_hour : ByteArray := prog_1_method_21_code
def yX1_hour : MethodName := ⟨RX1, "hour", "()I"⟩
def dkwX1_hour_0 : List UInt8 := [42, 182, 0, 162, 180, 0, 177, 172]
abbrev dktX1_hour_0 : List UInt8 := dkwX1_hour_0 ++ []
theorem dksX1_hour_0 : cX1_hour.data.toList.drop 0 = dktX1_hour_0 := by decide +kernel
theorem dX1_hour_0 : decode cX1_hour 0 = .ok (.aload_n 0, 1) := dk_42 (dk_at dksX1_hour_0 0 rfl rfl)
theorem dX1_hour_1 : decode cX1_hour 1 = .ok (.invokevirtual 162, 3) := dk_182 0 162 (dk_at dksX1_hour_0 1 rfl rfl)
theorem dX1_hour_4 : decode cX1_hour 4 = .ok (.getfield 177, 3) := dk_180 0 177 (dk_at dksX1_hour_0 4 rfl rfl)
theorem dX1_hour_7 : decode cX1_hour 7 = .ok (.ireturn, 1) := dk_172 (dk_at dksX1_hour_0 7 rfl rfl)
abbrev iX1_hour : xM := (yX1_hour, cX1_hour, 1, (some .int), [])
theorem mX1_hour : xOkM iX1_hour := ⟨by decide +kernel, by decide, q2880, q130⟩
abbrev cX1_temperature : ByteArray := prog_1_method_22_code
def yX1_temperature : MethodName := ⟨RX1, "temperature", "()I"⟩
def dkwX1_temperature_0 : List UInt8 := [42, 182, 0, 162, 180, 0, 180, 172]
abbrev dktX1_temperature_0 : List UInt8 := dkwX1_temperature_0 ++ []
theorem dksX1_temperature_0 : cX1_temperature.data.toList.drop 0 = dktX1_temperature_0 := by decide +kernel
theorem dX1_temperature_0 : decode cX1_temperature 0 = .ok (.aload_n 0, 1) := dk_42 (dk_at dksX1_temperature_0 0 rfl rfl)
theorem dX1_temperature_1 : decode cX1_temperature 1 = .ok (.invokevirtual 162, 3) := dk_182 0 162 (dk_at dksX1_temperature_0 1 rfl rfl)
theorem dX1_temperature_4 : decode cX1_temperature 4 = .ok (.getfield 180, 3) := dk_180 0 180 (dk_at dksX1_temperature_0 4 rfl rfl)
theorem dX1_temperature_7 : decode cX1_temperature 7 = .ok (.ireturn, 1) := dk_172 (dk_at dksX1_temperature_0 7 rfl rfl)
abbrev iX1_temperature : xM := (yX1_temperature, cX1_temperature, 1, (some .int), [])
theorem mX1_temperature : xOkM iX1_temperature := ⟨by decide +kernel, by decide, q2884, q130⟩
abbrev cX1_targetTemperature : ByteArray := prog_1_method_23_code
def yX1_targetTemperature : MethodName := ⟨RX1, "targetTemperature", "()I"⟩
def dkwX1_targetTemperature_0 : List UInt8 := [42, 182, 0, 162, 180, 0, 183, 172]
abbrev dktX1_targetTemperature_0 : List UInt8 := dkwX1_targetTemperature_0 ++ []
theorem dksX1_targetTemperature_0 : cX1_targetTemperature.data.toList.drop 0 = dktX1_targetTemperature_0 := by decide +kernel
theorem dX1_targetTemperature_0 : decode cX1_targetTemperature 0 = .ok (.aload_n 0, 1) := dk_42 (dk_at dksX1_targetTemperature_0 0 rfl rfl)
theorem dX1_targetTemperature_1 : decode cX1_targetTemperature 1 = .ok (.invokevirtual 162, 3) := dk_182 0 162 (dk_at dksX1_targetTemperature_0 1 rfl rfl)
theorem dX1_targetTemperature_4 : decode cX1_targetTemperature 4 = .ok (.getfield 183, 3) := dk_180 0 183 (dk_at dksX1_targetTemperature_0 4 rfl rfl)
theorem dX1_targetTemperature_7 : decode cX1_targetTemperature 7 = .ok (.ireturn, 1) := dk_172 (dk_at dksX1_targetTemperature_0 7 rfl rfl)
abbrev iX1_targetTemperature : xM := (yX1_targetTemperature, cX1_targetTemperature, 1, (some .int), [])
theorem mX1_targetTemperature : xOkM iX1_targetTemperature := ⟨by decide +kernel, by decide, q2888, q130⟩
abbrev cX1_chalkCount : ByteArray := prog_1_method_24_code
def yX1_chalkCount : MethodName := ⟨RX1, "chalkCount", "()I"⟩
def dkwX1_chalkCount_0 : List UInt8 := [42, 182, 0, 162, 180, 0, 186, 172]
abbrev dktX1_chalkCount_0 : List UInt8 := dkwX1_chalkCount_0 ++ []
theorem dksX1_chalkCount_0 : cX1_chalkCount.data.toList.drop 0 = dktX1_chalkCount_0 := by decide +kernel
theorem dX1_chalkCount_0 : decode cX1_chalkCount 0 = .ok (.aload_n 0, 1) := dk_42 (dk_at dksX1_chalkCount_0 0 rfl rfl)
theorem dX1_chalkCount_1 : decode cX1_chalkCount 1 = .ok (.invokevirtual 162, 3) := dk_182 0 162 (dk_at dksX1_chalkCount_0 1 rfl rfl)
theorem dX1_chalkCount_4 : decode cX1_chalkCount 4 = .ok (.getfield 186, 3) := dk_180 0 186 (dk_at dksX1_chalkCount_0 4 rfl rfl)
theorem dX1_chalkCount_7 : decode cX1_chalkCount 7 = .ok (.ireturn, 1) := dk_172 (dk_at dksX1_chalkCount_0 7 rfl rfl)
abbrev iX1_chalkCount : xM := (yX1_chalkCount, cX1_chalkCount, 1, (some .int), [])
theorem mX1_chalkCount : xOkM iX1_chalkCount := ⟨by decide +kernel, by decide, q2892, q130⟩
abbrev cX1_spareStrings : ByteArray := prog_1_method_25_code
def yX1_spareStrings : MethodName := ⟨RX1, "spareStrings", "()I"⟩
def dkwX1_spareStrings_0 : List UInt8 := [42, 182, 0, 162, 180, 0, 189, 172]
abbrev dktX1_spareStrings_0 : List UInt8 := dkwX1_spareStrings_0 ++ []
theorem dksX1_spareStrings_0 : cX1_spareStrings.data.toList.drop 0 = dktX1_spareStrings_0 := by decide +kernel
theorem dX1_spareStrings_0 : decode cX1_spareStrings 0 = .ok (.aload_n 0, 1) := dk_42 (dk_at dksX1_spareStrings_0 0 rfl rfl)
theorem dX1_spareStrings_1 : decode cX1_spareStrings 1 = .ok (.invokevirtual 162, 3) := dk_182 0 162 (dk_at dksX1_spareStrings_0 1 rfl rfl)
theorem dX1_spareStrings_4 : decode cX1_spareStrings 4 = .ok (.getfield 189, 3) := dk_180 0 189 (dk_at dksX1_spareStrings_0 4 rfl rfl)
theorem dX1_spareStrings_7 : decode cX1_spareStrings 7 = .ok (.ireturn, 1) := dk_172 (dk_at dksX1_spareStrings_0 7 rfl rfl)
abbrev iX1_spareStrings : xM := (yX1_spareStrings, cX1_spareStrings, 1, (some .int), [])
theorem mX1_spareStrings : xOkM iX1_spareStrings := ⟨by decide +kernel, by decide, q2896, q130⟩
abbrev cX1_fiddlerCount : ByteArray := prog_1_method_27_code
def yX1_fiddlerCount : MethodName := ⟨RX1, "fiddlerCount", "()I"⟩
def dkwX1_fiddlerCount_0 : List UInt8 := [42, 182, 0, 162, 180, 0, 195, 182, 0, 199, 172]
abbrev dktX1_fiddlerCount_0 : List UInt8 := dkwX1_fiddlerCount_0 ++ []
theorem dksX1_fiddlerCount_0 : cX1_fiddlerCount.data.toList.drop 0 = dktX1_fiddlerCount_0 := by decide +kernel
theorem dX1_fiddlerCount_0 : decode cX1_fiddlerCount 0 = .ok (.aload_n 0, 1) := dk_42 (dk_at dksX1_fiddlerCount_0 0 rfl rfl)
theorem dX1_fiddlerCount_1 : decode cX1_fiddlerCount 1 = .ok (.invokevirtual 162, 3) := dk_182 0 162 (dk_at dksX1_fiddlerCount_0 1 rfl rfl)
theorem dX1_fiddlerCount_4 : decode cX1_fiddlerCount 4 = .ok (.getfield 195, 3) := dk_180 0 195 (dk_at dksX1_fiddlerCount_0 4 rfl rfl)
theorem dX1_fiddlerCount_7 : decode cX1_fiddlerCount 7 = .ok (.invokevirtual 199, 3) := dk_182 0 199 (dk_at dksX1_fiddlerCount_0 7 rfl rfl)
theorem dX1_fiddlerCount_10 : decode cX1_fiddlerCount 10 = .ok (.ireturn, 1) := dk_172 (dk_at dksX1_fiddlerCount_0 10 rfl rfl)
abbrev iX1_fiddlerCount : xM := (yX1_fiddlerCount, cX1_fiddlerCount, 1, (some .int), [])
theorem mX1_fiddlerCount : xOkM iX1_fiddlerCount := ⟨by decide +kernel, by decide, q2900, q130⟩
abbrev cX1_rowLength : ByteArray := prog_1_method_28_code
def yX1_rowLength : MethodName := ⟨RX1, "rowLength", "()I"⟩
def dkwX1_rowLength_0 : List UInt8 := [42, 182, 0, 162, 180, 0, 204, 182, 0, 199, 172]
abbrev dktX1_rowLength_0 : List UInt8 := dkwX1_rowLength_0 ++ []
theorem dksX1_rowLength_0 : cX1_rowLength.data.toList.drop 0 = dktX1_rowLength_0 := by decide +kernel
theorem dX1_rowLength_0 : decode cX1_rowLength 0 = .ok (.aload_n 0, 1) := dk_42 (dk_at dksX1_rowLength_0 0 rfl rfl)
theorem dX1_rowLength_1 : decode cX1_rowLength 1 = .ok (.invokevirtual 162, 3) := dk_182 0 162 (dk_at dksX1_rowLength_0 1 rfl rfl)
theorem dX1_rowLength_4 : decode cX1_rowLength 4 = .ok (.getfield 204, 3) := dk_180 0 204 (dk_at dksX1_rowLength_0 4 rfl rfl)
theorem dX1_rowLength_7 : decode cX1_rowLength 7 = .ok (.invokevirtual 199, 3) := dk_182 0 199 (dk_at dksX1_rowLength_0 7 rfl rfl)
theorem dX1_rowLength_10 : decode cX1_rowLength 10 = .ok (.ireturn, 1) := dk_172 (dk_at dksX1_rowLength_0 10 rfl rfl)
abbrev iX1_rowLength : xM := (yX1_rowLength, cX1_rowLength, 1, (some .int), [])
theorem mX1_rowLength : xOkM iX1_rowLength := ⟨by decide +kernel, by decide, q2905, q130⟩
abbrev cX1_fiddlerAt : ByteArray := prog_1_method_29_code
def yX1_fiddlerAt : MethodName := ⟨RX1, "fiddlerAt", "(I)I"⟩
def dkwX1_fiddlerAt_1 : List UInt8 := [180, 0, 204, 27, 182, 0, 207, 192, 0, 211, 180, 0, 213, 167, 0, 4, 2, 172]
abbrev dktX1_fiddlerAt_1 : List UInt8 := dkwX1_fiddlerAt_1 ++ []
def dkwX1_fiddlerAt_0 : List UInt8 := [27, 3, 42, 182, 0, 162, 180, 0, 204, 182, 0, 199, 4, 100, 184, 0, 96, 153, 0, 23, 42, 182, 0, 162]
abbrev dktX1_fiddlerAt_0 : List UInt8 := dkwX1_fiddlerAt_0 ++ dktX1_fiddlerAt_1
theorem dksX1_fiddlerAt_0 : cX1_fiddlerAt.data.toList.drop 0 = dktX1_fiddlerAt_0 := by decide +kernel
theorem dksX1_fiddlerAt_1 : cX1_fiddlerAt.data.toList.drop 24 = dktX1_fiddlerAt_1 := dk_seg dksX1_fiddlerAt_0 24 rfl rfl
theorem dX1_fiddlerAt_0 : decode cX1_fiddlerAt 0 = .ok (.iload_n 1, 1) := dk_27 (dk_at dksX1_fiddlerAt_0 0 rfl rfl)
theorem dX1_fiddlerAt_1 : decode cX1_fiddlerAt 1 = .ok (.iconst 0, 1) := dk_3 (dk_at dksX1_fiddlerAt_0 1 rfl rfl)
theorem dX1_fiddlerAt_2 : decode cX1_fiddlerAt 2 = .ok (.aload_n 0, 1) := dk_42 (dk_at dksX1_fiddlerAt_0 2 rfl rfl)
theorem dX1_fiddlerAt_3 : decode cX1_fiddlerAt 3 = .ok (.invokevirtual 162, 3) := dk_182 0 162 (dk_at dksX1_fiddlerAt_0 3 rfl rfl)
theorem dX1_fiddlerAt_6 : decode cX1_fiddlerAt 6 = .ok (.getfield 204, 3) := dk_180 0 204 (dk_at dksX1_fiddlerAt_0 6 rfl rfl)
theorem dX1_fiddlerAt_9 : decode cX1_fiddlerAt 9 = .ok (.invokevirtual 199, 3) := dk_182 0 199 (dk_at dksX1_fiddlerAt_0 9 rfl rfl)
theorem dX1_fiddlerAt_12 : decode cX1_fiddlerAt 12 = .ok (.iconst 1, 1) := dk_4 (dk_at dksX1_fiddlerAt_0 12 rfl rfl)
theorem dX1_fiddlerAt_13 : decode cX1_fiddlerAt 13 = .ok (.isub, 1) := dk_100 (dk_at dksX1_fiddlerAt_0 13 rfl rfl)
theorem dX1_fiddlerAt_14 : decode cX1_fiddlerAt 14 = .ok (.invokestatic 96, 3) := dk_184 0 96 (dk_at dksX1_fiddlerAt_0 14 rfl rfl)
theorem dX1_fiddlerAt_17 : decode cX1_fiddlerAt 17 = .ok (.ifCond .eq 23, 3) := dk_153 0 23 (dk_at dksX1_fiddlerAt_0 17 rfl rfl)
theorem dX1_fiddlerAt_20 : decode cX1_fiddlerAt 20 = .ok (.aload_n 0, 1) := dk_42 (dk_at dksX1_fiddlerAt_0 20 rfl rfl)
theorem dX1_fiddlerAt_21 : decode cX1_fiddlerAt 21 = .ok (.invokevirtual 162, 3) := dk_182 0 162 (dk_at dksX1_fiddlerAt_0 21 rfl rfl)
theorem dX1_fiddlerAt_24 : decode cX1_fiddlerAt 24 = .ok (.getfield 204, 3) := dk_180 0 204 (dk_at dksX1_fiddlerAt_1 0 rfl rfl)
theorem dX1_fiddlerAt_27 : decode cX1_fiddlerAt 27 = .ok (.iload_n 1, 1) := dk_27 (dk_at dksX1_fiddlerAt_1 3 rfl rfl)
theorem dX1_fiddlerAt_28 : decode cX1_fiddlerAt 28 = .ok (.invokevirtual 207, 3) := dk_182 0 207 (dk_at dksX1_fiddlerAt_1 4 rfl rfl)
theorem dX1_fiddlerAt_31 : decode cX1_fiddlerAt 31 = .ok (.checkcast 211, 3) := dk_192 0 211 (dk_at dksX1_fiddlerAt_1 7 rfl rfl)
theorem dX1_fiddlerAt_34 : decode cX1_fiddlerAt 34 = .ok (.getfield 213, 3) := dk_180 0 213 (dk_at dksX1_fiddlerAt_1 10 rfl rfl)
theorem dX1_fiddlerAt_37 : decode cX1_fiddlerAt 37 = .ok (.goto 4, 3) := dk_167 0 4 (dk_at dksX1_fiddlerAt_1 13 rfl rfl)
theorem dX1_fiddlerAt_40 : decode cX1_fiddlerAt 40 = .ok (.iconst (-1), 1) := dk_2 (dk_at dksX1_fiddlerAt_1 16 rfl rfl)
theorem dX1_fiddlerAt_41 : decode cX1_fiddlerAt 41 = .ok (.ireturn, 1) := dk_172 (dk_at dksX1_fiddlerAt_1 17 rfl rfl)
abbrev iX1_fiddlerAt : xM := (yX1_fiddlerAt, cX1_fiddlerAt, 2, (some .int), [])
theorem mX1_fiddlerAt : xOkM iX1_fiddlerAt := ⟨by decide +kernel, by decide, q2909, q130⟩
abbrev cX1_findFiddler : ByteArray := prog_1_method_31_code
def yX1_findFiddler : MethodName := ⟨RX1, "findFiddler", "()I"⟩
def dkwX1_findFiddler_0 : List UInt8 := [42, 182, 0, 162, 42, 182, 0, 224, 182, 0, 227, 172]
abbrev dktX1_findFiddler_0 : List UInt8 := dkwX1_findFiddler_0 ++ []
theorem dksX1_findFiddler_0 : cX1_findFiddler.data.toList.drop 0 = dktX1_findFiddler_0 := by decide +kernel
theorem dX1_findFiddler_0 : decode cX1_findFiddler 0 = .ok (.aload_n 0, 1) := dk_42 (dk_at dksX1_findFiddler_0 0 rfl rfl)
theorem dX1_findFiddler_1 : decode cX1_findFiddler 1 = .ok (.invokevirtual 162, 3) := dk_182 0 162 (dk_at dksX1_findFiddler_0 1 rfl rfl)
theorem dX1_findFiddler_4 : decode cX1_findFiddler 4 = .ok (.aload_n 0, 1) := dk_42 (dk_at dksX1_findFiddler_0 4 rfl rfl)
theorem dX1_findFiddler_5 : decode cX1_findFiddler 5 = .ok (.invokevirtual 224, 3) := dk_182 0 224 (dk_at dksX1_findFiddler_0 5 rfl rfl)
theorem dX1_findFiddler_8 : decode cX1_findFiddler 8 = .ok (.invokevirtual 227, 3) := dk_182 0 227 (dk_at dksX1_findFiddler_0 8 rfl rfl)
theorem dX1_findFiddler_11 : decode cX1_findFiddler 11 = .ok (.ireturn, 1) := dk_172 (dk_at dksX1_findFiddler_0 11 rfl rfl)
abbrev iX1_findFiddler : xM := (yX1_findFiddler, cX1_findFiddler, 1, (some .int), [])
theorem mX1_findFiddler : xOkM iX1_findFiddler := ⟨by decide +kernel, by decide, q2916, q130⟩
abbrev cX1_bufferText : ByteArray := prog_1_method_13_code
def yX1_bufferText : MethodName := ⟨RX1, "bufferText", "()Ljava/lang/String;"⟩
def dkwX1_bufferText_1 : List UInt8 := [51, 17, 0, 255, 126, 146, 182, 0, 103, 87, 132, 2, 1, 167, 255, 229, 43, 182, 0, 107, 176]
abbrev dktX1_bufferText_1 : List UInt8 := dkwX1_bufferText_1 ++ []
def dkwX1_bufferText_0 : List UInt8 := [187, 0, 74, 89, 183, 0, 76, 76, 3, 61, 28, 42, 180, 0, 81, 162, 0, 25, 43, 42, 180, 0, 66, 28]
abbrev dktX1_bufferText_0 : List UInt8 := dkwX1_bufferText_0 ++ dktX1_bufferText_1
theorem dksX1_bufferText_0 : cX1_bufferText.data.toList.drop 0 = dktX1_bufferText_0 := by decide +kernel
theorem dksX1_bufferText_1 : cX1_bufferText.data.toList.drop 24 = dktX1_bufferText_1 := dk_seg dksX1_bufferText_0 24 rfl rfl
theorem dX1_bufferText_0 : decode cX1_bufferText 0 = .ok (.new 74, 3) := dk_187 0 74 (dk_at dksX1_bufferText_0 0 rfl rfl)
theorem dX1_bufferText_3 : decode cX1_bufferText 3 = .ok (.dup, 1) := dk_89 (dk_at dksX1_bufferText_0 3 rfl rfl)
theorem dX1_bufferText_4 : decode cX1_bufferText 4 = .ok (.invokespecial 76, 3) := dk_183 0 76 (dk_at dksX1_bufferText_0 4 rfl rfl)
theorem dX1_bufferText_7 : decode cX1_bufferText 7 = .ok (.astore_n 1, 1) := dk_76 (dk_at dksX1_bufferText_0 7 rfl rfl)
theorem dX1_bufferText_8 : decode cX1_bufferText 8 = .ok (.iconst 0, 1) := dk_3 (dk_at dksX1_bufferText_0 8 rfl rfl)
theorem dX1_bufferText_9 : decode cX1_bufferText 9 = .ok (.istore_n 2, 1) := dk_61 (dk_at dksX1_bufferText_0 9 rfl rfl)
theorem dX1_bufferText_10 : decode cX1_bufferText 10 = .ok (.iload_n 2, 1) := dk_28 (dk_at dksX1_bufferText_0 10 rfl rfl)
theorem dX1_bufferText_11 : decode cX1_bufferText 11 = .ok (.aload_n 0, 1) := dk_42 (dk_at dksX1_bufferText_0 11 rfl rfl)
theorem dX1_bufferText_12 : decode cX1_bufferText 12 = .ok (.getfield 81, 3) := dk_180 0 81 (dk_at dksX1_bufferText_0 12 rfl rfl)
theorem dX1_bufferText_15 : decode cX1_bufferText 15 = .ok (.if_icmp .ge 25, 3) := dk_162 0 25 (dk_at dksX1_bufferText_0 15 rfl rfl)
theorem dX1_bufferText_18 : decode cX1_bufferText 18 = .ok (.aload_n 1, 1) := dk_43 (dk_at dksX1_bufferText_0 18 rfl rfl)
theorem dX1_bufferText_19 : decode cX1_bufferText 19 = .ok (.aload_n 0, 1) := dk_42 (dk_at dksX1_bufferText_0 19 rfl rfl)
theorem dX1_bufferText_20 : decode cX1_bufferText 20 = .ok (.getfield 66, 3) := dk_180 0 66 (dk_at dksX1_bufferText_0 20 rfl rfl)
theorem dX1_bufferText_23 : decode cX1_bufferText 23 = .ok (.iload_n 2, 1) := dk_28 (dk_at dksX1_bufferText_0 23 rfl rfl)
theorem dX1_bufferText_24 : decode cX1_bufferText 24 = .ok (.baload, 1) := dk_51 (dk_at dksX1_bufferText_1 0 rfl rfl)
theorem dX1_bufferText_25 : decode cX1_bufferText 25 = .ok (.sipush 255, 3) := dk_17 0 255 (dk_at dksX1_bufferText_1 1 rfl rfl)
theorem dX1_bufferText_28 : decode cX1_bufferText 28 = .ok (.iand, 1) := dk_126 (dk_at dksX1_bufferText_1 4 rfl rfl)
theorem dX1_bufferText_29 : decode cX1_bufferText 29 = .ok (.i2c, 1) := dk_146 (dk_at dksX1_bufferText_1 5 rfl rfl)
theorem dX1_bufferText_30 : decode cX1_bufferText 30 = .ok (.invokevirtual 103, 3) := dk_182 0 103 (dk_at dksX1_bufferText_1 6 rfl rfl)
theorem dX1_bufferText_33 : decode cX1_bufferText 33 = .ok (.pop, 1) := dk_87 (dk_at dksX1_bufferText_1 9 rfl rfl)
theorem dX1_bufferText_34 : decode cX1_bufferText 34 = .ok (.iinc 2 1, 3) := dk_132 2 1 (dk_at dksX1_bufferText_1 10 rfl rfl)
theorem dX1_bufferText_37 : decode cX1_bufferText 37 = .ok (.goto (-27), 3) := dk_167 255 229 (dk_at dksX1_bufferText_1 13 rfl rfl)
theorem dX1_bufferText_40 : decode cX1_bufferText 40 = .ok (.aload_n 1, 1) := dk_43 (dk_at dksX1_bufferText_1 16 rfl rfl)
theorem dX1_bufferText_41 : decode cX1_bufferText 41 = .ok (.invokevirtual 107, 3) := dk_182 0 107 (dk_at dksX1_bufferText_1 17 rfl rfl)
theorem dX1_bufferText_44 : decode cX1_bufferText 44 = .ok (.areturn, 1) := dk_176 (dk_at dksX1_bufferText_1 20 rfl rfl)
abbrev iX1_bufferText : xM := (yX1_bufferText, cX1_bufferText, 3, (some (.object "java/lang/String")), [])
theorem mX1_bufferText : xOkM iX1_bufferText := ⟨by decide +kernel, by decide, q2920, q130⟩
abbrev cX1_worstFiddler : ByteArray := prog_1_method_39_code
def yX1_worstFiddler : MethodName := ⟨RX1, "worstFiddler", "()I"⟩
def dkwX1_worstFiddler_6 : List UInt8 := [167, 0, 7, 44, 180, 1, 80, 172]
abbrev dktX1_worstFiddler_6 : List UInt8 := dkwX1_worstFiddler_6 ++ []
def dkwX1_worstFiddler_5 : List UInt8 := [132, 4, 1, 167, 255, 182, 167, 255, 157, 43, 184, 1, 76, 192, 1, 54, 77, 44, 199, 0, 7, 2]
abbrev dktX1_worstFiddler_5 : List UInt8 := dkwX1_worstFiddler_5 ++ dktX1_worstFiddler_6
def dkwX1_worstFiddler_4 : List UInt8 := [43, 25, 5, 25, 6, 180, 0, 248, 184, 1, 7, 184, 1, 66, 182, 1, 72, 192, 1, 67, 58, 7]
abbrev dktX1_worstFiddler_4 : List UInt8 := dkwX1_worstFiddler_4 ++ dktX1_worstFiddler_5
def dkwX1_worstFiddler_3 : List UInt8 := [180, 1, 59, 25, 5, 182, 1, 63, 192, 0, 249, 58, 6, 25, 6, 180, 1, 3, 153, 0, 6, 167, 0, 25]
abbrev dktX1_worstFiddler_3 : List UInt8 := dkwX1_worstFiddler_3 ++ dktX1_worstFiddler_4
def dkwX1_worstFiddler_2 : List UInt8 := [162, 0, 74, 187, 1, 54, 89, 45, 180, 0, 213, 21, 4, 183, 1, 56, 58, 5, 42, 182, 0, 162]
abbrev dktX1_worstFiddler_2 : List UInt8 := dkwX1_worstFiddler_2 ++ dktX1_worstFiddler_3
def dkwX1_worstFiddler_1 : List UInt8 := [185, 1, 28, 1, 0, 153, 0, 96, 44, 185, 1, 34, 1, 0, 192, 0, 211, 78, 3, 54, 4, 21, 4, 7]
abbrev dktX1_worstFiddler_1 : List UInt8 := dkwX1_worstFiddler_1 ++ dktX1_worstFiddler_2
def dkwX1_worstFiddler_0 : List UInt8 := [187, 1, 17, 89, 183, 1, 52, 76, 42, 182, 0, 162, 180, 0, 204, 182, 1, 53, 77, 44]
abbrev dktX1_worstFiddler_0 : List UInt8 := dkwX1_worstFiddler_0 ++ dktX1_worstFiddler_1
theorem dksX1_worstFiddler_0 : cX1_worstFiddler.data.toList.drop 0 = dktX1_worstFiddler_0 := by decide +kernel
theorem dksX1_worstFiddler_1 : cX1_worstFiddler.data.toList.drop 20 = dktX1_worstFiddler_1 := dk_seg dksX1_worstFiddler_0 20 rfl rfl
theorem dksX1_worstFiddler_2 : cX1_worstFiddler.data.toList.drop 44 = dktX1_worstFiddler_2 := dk_seg dksX1_worstFiddler_1 24 rfl rfl
theorem dksX1_worstFiddler_3 : cX1_worstFiddler.data.toList.drop 66 = dktX1_worstFiddler_3 := dk_seg dksX1_worstFiddler_2 22 rfl rfl
theorem dksX1_worstFiddler_4 : cX1_worstFiddler.data.toList.drop 90 = dktX1_worstFiddler_4 := dk_seg dksX1_worstFiddler_3 24 rfl rfl
theorem dksX1_worstFiddler_5 : cX1_worstFiddler.data.toList.drop 112 = dktX1_worstFiddler_5 := dk_seg dksX1_worstFiddler_4 22 rfl rfl
theorem dksX1_worstFiddler_6 : cX1_worstFiddler.data.toList.drop 134 = dktX1_worstFiddler_6 := dk_seg dksX1_worstFiddler_5 22 rfl rfl
theorem dX1_worstFiddler_0 : decode cX1_worstFiddler 0 = .ok (.new 273, 3) := dk_187 1 17 (dk_at dksX1_worstFiddler_0 0 rfl rfl)
theorem dX1_worstFiddler_3 : decode cX1_worstFiddler 3 = .ok (.dup, 1) := dk_89 (dk_at dksX1_worstFiddler_0 3 rfl rfl)
theorem dX1_worstFiddler_4 : decode cX1_worstFiddler 4 = .ok (.invokespecial 308, 3) := dk_183 1 52 (dk_at dksX1_worstFiddler_0 4 rfl rfl)
theorem dX1_worstFiddler_7 : decode cX1_worstFiddler 7 = .ok (.astore_n 1, 1) := dk_76 (dk_at dksX1_worstFiddler_0 7 rfl rfl)
theorem dX1_worstFiddler_8 : decode cX1_worstFiddler 8 = .ok (.aload_n 0, 1) := dk_42 (dk_at dksX1_worstFiddler_0 8 rfl rfl)
theorem dX1_worstFiddler_9 : decode cX1_worstFiddler 9 = .ok (.invokevirtual 162, 3) := dk_182 0 162 (dk_at dksX1_worstFiddler_0 9 rfl rfl)
theorem dX1_worstFiddler_12 : decode cX1_worstFiddler 12 = .ok (.getfield 204, 3) := dk_180 0 204 (dk_at dksX1_worstFiddler_0 12 rfl rfl)
theorem dX1_worstFiddler_15 : decode cX1_worstFiddler 15 = .ok (.invokevirtual 309, 3) := dk_182 1 53 (dk_at dksX1_worstFiddler_0 15 rfl rfl)
theorem dX1_worstFiddler_18 : decode cX1_worstFiddler 18 = .ok (.astore_n 2, 1) := dk_77 (dk_at dksX1_worstFiddler_0 18 rfl rfl)
theorem dX1_worstFiddler_19 : decode cX1_worstFiddler 19 = .ok (.aload_n 2, 1) := dk_44 (dk_at dksX1_worstFiddler_0 19 rfl rfl)
theorem dX1_worstFiddler_20 : decode cX1_worstFiddler 20 = .ok (.invokeinterface 284 1, 5) := by decide +kernel
theorem dX1_worstFiddler_25 : decode cX1_worstFiddler 25 = .ok (.ifCond .eq 96, 3) := dk_153 0 96 (dk_at dksX1_worstFiddler_1 5 rfl rfl)
theorem dX1_worstFiddler_28 : decode cX1_worstFiddler 28 = .ok (.aload_n 2, 1) := dk_44 (dk_at dksX1_worstFiddler_1 8 rfl rfl)
theorem dX1_worstFiddler_29 : decode cX1_worstFiddler 29 = .ok (.invokeinterface 290 1, 5) := by decide +kernel
theorem dX1_worstFiddler_34 : decode cX1_worstFiddler 34 = .ok (.checkcast 211, 3) := dk_192 0 211 (dk_at dksX1_worstFiddler_1 14 rfl rfl)
theorem dX1_worstFiddler_37 : decode cX1_worstFiddler 37 = .ok (.astore_n 3, 1) := dk_78 (dk_at dksX1_worstFiddler_1 17 rfl rfl)
theorem dX1_worstFiddler_38 : decode cX1_worstFiddler 38 = .ok (.iconst 0, 1) := dk_3 (dk_at dksX1_worstFiddler_1 18 rfl rfl)
theorem dX1_worstFiddler_39 : decode cX1_worstFiddler 39 = .ok (.istore 4, 2) := dk_54 4 (dk_at dksX1_worstFiddler_1 19 rfl rfl)
theorem dX1_worstFiddler_41 : decode cX1_worstFiddler 41 = .ok (.iload 4, 2) := dk_21 4 (dk_at dksX1_worstFiddler_1 21 rfl rfl)
theorem dX1_worstFiddler_43 : decode cX1_worstFiddler 43 = .ok (.iconst 4, 1) := dk_7 (dk_at dksX1_worstFiddler_1 23 rfl rfl)
theorem dX1_worstFiddler_44 : decode cX1_worstFiddler 44 = .ok (.if_icmp .ge 74, 3) := dk_162 0 74 (dk_at dksX1_worstFiddler_2 0 rfl rfl)
theorem dX1_worstFiddler_47 : decode cX1_worstFiddler 47 = .ok (.new 310, 3) := dk_187 1 54 (dk_at dksX1_worstFiddler_2 3 rfl rfl)
theorem dX1_worstFiddler_50 : decode cX1_worstFiddler 50 = .ok (.dup, 1) := dk_89 (dk_at dksX1_worstFiddler_2 6 rfl rfl)
theorem dX1_worstFiddler_51 : decode cX1_worstFiddler 51 = .ok (.aload_n 3, 1) := dk_45 (dk_at dksX1_worstFiddler_2 7 rfl rfl)
theorem dX1_worstFiddler_52 : decode cX1_worstFiddler 52 = .ok (.getfield 213, 3) := dk_180 0 213 (dk_at dksX1_worstFiddler_2 8 rfl rfl)
theorem dX1_worstFiddler_55 : decode cX1_worstFiddler 55 = .ok (.iload 4, 2) := dk_21 4 (dk_at dksX1_worstFiddler_2 11 rfl rfl)
theorem dX1_worstFiddler_57 : decode cX1_worstFiddler 57 = .ok (.invokespecial 312, 3) := dk_183 1 56 (dk_at dksX1_worstFiddler_2 13 rfl rfl)
theorem dX1_worstFiddler_60 : decode cX1_worstFiddler 60 = .ok (.astore 5, 2) := dk_58 5 (dk_at dksX1_worstFiddler_2 16 rfl rfl)
theorem dX1_worstFiddler_62 : decode cX1_worstFiddler 62 = .ok (.aload_n 0, 1) := dk_42 (dk_at dksX1_worstFiddler_2 18 rfl rfl)
theorem dX1_worstFiddler_63 : decode cX1_worstFiddler 63 = .ok (.invokevirtual 162, 3) := dk_182 0 162 (dk_at dksX1_worstFiddler_2 19 rfl rfl)
theorem dX1_worstFiddler_66 : decode cX1_worstFiddler 66 = .ok (.getfield 315, 3) := dk_180 1 59 (dk_at dksX1_worstFiddler_3 0 rfl rfl)
theorem dX1_worstFiddler_69 : decode cX1_worstFiddler 69 = .ok (.aload 5, 2) := dk_25 5 (dk_at dksX1_worstFiddler_3 3 rfl rfl)
theorem dX1_worstFiddler_71 : decode cX1_worstFiddler 71 = .ok (.invokevirtual 319, 3) := dk_182 1 63 (dk_at dksX1_worstFiddler_3 5 rfl rfl)
theorem dX1_worstFiddler_74 : decode cX1_worstFiddler 74 = .ok (.checkcast 249, 3) := dk_192 0 249 (dk_at dksX1_worstFiddler_3 8 rfl rfl)
theorem dX1_worstFiddler_77 : decode cX1_worstFiddler 77 = .ok (.astore 6, 2) := dk_58 6 (dk_at dksX1_worstFiddler_3 11 rfl rfl)
theorem dX1_worstFiddler_79 : decode cX1_worstFiddler 79 = .ok (.aload 6, 2) := dk_25 6 (dk_at dksX1_worstFiddler_3 13 rfl rfl)
theorem dX1_worstFiddler_81 : decode cX1_worstFiddler 81 = .ok (.getfield 259, 3) := dk_180 1 3 (dk_at dksX1_worstFiddler_3 15 rfl rfl)
theorem dX1_worstFiddler_84 : decode cX1_worstFiddler 84 = .ok (.ifCond .eq 6, 3) := dk_153 0 6 (dk_at dksX1_worstFiddler_3 18 rfl rfl)
theorem dX1_worstFiddler_87 : decode cX1_worstFiddler 87 = .ok (.goto 25, 3) := dk_167 0 25 (dk_at dksX1_worstFiddler_3 21 rfl rfl)
theorem dX1_worstFiddler_90 : decode cX1_worstFiddler 90 = .ok (.aload_n 1, 1) := dk_43 (dk_at dksX1_worstFiddler_4 0 rfl rfl)
theorem dX1_worstFiddler_91 : decode cX1_worstFiddler 91 = .ok (.aload 5, 2) := dk_25 5 (dk_at dksX1_worstFiddler_4 1 rfl rfl)
theorem dX1_worstFiddler_93 : decode cX1_worstFiddler 93 = .ok (.aload 6, 2) := dk_25 6 (dk_at dksX1_worstFiddler_4 3 rfl rfl)
theorem dX1_worstFiddler_95 : decode cX1_worstFiddler 95 = .ok (.getfield 248, 3) := dk_180 0 248 (dk_at dksX1_worstFiddler_4 5 rfl rfl)
theorem dX1_worstFiddler_98 : decode cX1_worstFiddler 98 = .ok (.invokestatic 263, 3) := dk_184 1 7 (dk_at dksX1_worstFiddler_4 8 rfl rfl)
theorem dX1_worstFiddler_101 : decode cX1_worstFiddler 101 = .ok (.invokestatic 322, 3) := dk_184 1 66 (dk_at dksX1_worstFiddler_4 11 rfl rfl)
theorem dX1_worstFiddler_104 : decode cX1_worstFiddler 104 = .ok (.invokevirtual 328, 3) := dk_182 1 72 (dk_at dksX1_worstFiddler_4 14 rfl rfl)
theorem dX1_worstFiddler_107 : decode cX1_worstFiddler 107 = .ok (.checkcast 323, 3) := dk_192 1 67 (dk_at dksX1_worstFiddler_4 17 rfl rfl)
theorem dX1_worstFiddler_110 : decode cX1_worstFiddler 110 = .ok (.astore 7, 2) := dk_58 7 (dk_at dksX1_worstFiddler_4 20 rfl rfl)
theorem dX1_worstFiddler_112 : decode cX1_worstFiddler 112 = .ok (.iinc 4 1, 3) := dk_132 4 1 (dk_at dksX1_worstFiddler_5 0 rfl rfl)
theorem dX1_worstFiddler_115 : decode cX1_worstFiddler 115 = .ok (.goto (-74), 3) := dk_167 255 182 (dk_at dksX1_worstFiddler_5 3 rfl rfl)
theorem dX1_worstFiddler_118 : decode cX1_worstFiddler 118 = .ok (.goto (-99), 3) := dk_167 255 157 (dk_at dksX1_worstFiddler_5 6 rfl rfl)
theorem dX1_worstFiddler_121 : decode cX1_worstFiddler 121 = .ok (.aload_n 1, 1) := dk_43 (dk_at dksX1_worstFiddler_5 9 rfl rfl)
theorem dX1_worstFiddler_122 : decode cX1_worstFiddler 122 = .ok (.invokestatic 332, 3) := dk_184 1 76 (dk_at dksX1_worstFiddler_5 10 rfl rfl)
theorem dX1_worstFiddler_125 : decode cX1_worstFiddler 125 = .ok (.checkcast 310, 3) := dk_192 1 54 (dk_at dksX1_worstFiddler_5 13 rfl rfl)
theorem dX1_worstFiddler_128 : decode cX1_worstFiddler 128 = .ok (.astore_n 2, 1) := dk_77 (dk_at dksX1_worstFiddler_5 16 rfl rfl)
theorem dX1_worstFiddler_129 : decode cX1_worstFiddler 129 = .ok (.aload_n 2, 1) := dk_44 (dk_at dksX1_worstFiddler_5 17 rfl rfl)
theorem dX1_worstFiddler_130 : decode cX1_worstFiddler 130 = .ok (.ifnonnull 7, 3) := dk_199 0 7 (dk_at dksX1_worstFiddler_5 18 rfl rfl)
theorem dX1_worstFiddler_133 : decode cX1_worstFiddler 133 = .ok (.iconst (-1), 1) := dk_2 (dk_at dksX1_worstFiddler_5 21 rfl rfl)
theorem dX1_worstFiddler_134 : decode cX1_worstFiddler 134 = .ok (.goto 7, 3) := dk_167 0 7 (dk_at dksX1_worstFiddler_6 0 rfl rfl)
theorem dX1_worstFiddler_137 : decode cX1_worstFiddler 137 = .ok (.aload_n 2, 1) := dk_44 (dk_at dksX1_worstFiddler_6 3 rfl rfl)
theorem dX1_worstFiddler_138 : decode cX1_worstFiddler 138 = .ok (.getfield 336, 3) := dk_180 1 80 (dk_at dksX1_worstFiddler_6 4 rfl rfl)
theorem dX1_worstFiddler_141 : decode cX1_worstFiddler 141 = .ok (.ireturn, 1) := dk_172 (dk_at dksX1_worstFiddler_6 7 rfl rfl)
abbrev iX1_worstFiddler : xM := (yX1_worstFiddler, cX1_worstFiddler, 8, (some .int), [])
theorem mX1_worstFiddler : xOkM iX1_worstFiddler := ⟨by decide +kernel, by decide, q2927, q130⟩
abbrev cX1_keyOfGreatest : ByteArray := prog_1_method_38_code
def yX1_keyOfGreatest : MethodName := ⟨RX1, "keyOfGreatest", "(Ljava/util/LinkedHashMap;)Ljava/lang/Object;"⟩
def dkwX1_keyOfGreatest_3 : List UInt8 := [185, 1, 40, 1, 0, 192, 1, 43, 77, 167, 255, 191, 43, 176]
abbrev dktX1_keyOfGreatest_3 : List UInt8 := dkwX1_keyOfGreatest_3 ++ []
def dkwX1_keyOfGreatest_2 : List UInt8 := [44, 185, 1, 45, 2, 0, 157, 0, 6, 167, 255, 213, 25, 4, 185, 1, 49, 1, 0, 76, 25, 4]
abbrev dktX1_keyOfGreatest_2 : List UInt8 := dkwX1_keyOfGreatest_2 ++ dktX1_keyOfGreatest_3
def dkwX1_keyOfGreatest_1 : List UInt8 := [185, 1, 34, 1, 0, 192, 1, 38, 58, 4, 44, 198, 0, 25, 25, 4, 185, 1, 40, 1, 0, 192, 1, 43]
abbrev dktX1_keyOfGreatest_1 : List UInt8 := dkwX1_keyOfGreatest_1 ++ dktX1_keyOfGreatest_2
def dkwX1_keyOfGreatest_0 : List UInt8 := [1, 76, 1, 77, 42, 182, 1, 16, 185, 1, 22, 1, 0, 78, 45, 185, 1, 28, 1, 0, 153, 0, 62, 45]
abbrev dktX1_keyOfGreatest_0 : List UInt8 := dkwX1_keyOfGreatest_0 ++ dktX1_keyOfGreatest_1
theorem dksX1_keyOfGreatest_0 : cX1_keyOfGreatest.data.toList.drop 0 = dktX1_keyOfGreatest_0 := by decide +kernel
theorem dksX1_keyOfGreatest_1 : cX1_keyOfGreatest.data.toList.drop 24 = dktX1_keyOfGreatest_1 := dk_seg dksX1_keyOfGreatest_0 24 rfl rfl
theorem dksX1_keyOfGreatest_2 : cX1_keyOfGreatest.data.toList.drop 48 = dktX1_keyOfGreatest_2 := dk_seg dksX1_keyOfGreatest_1 24 rfl rfl
theorem dksX1_keyOfGreatest_3 : cX1_keyOfGreatest.data.toList.drop 70 = dktX1_keyOfGreatest_3 := dk_seg dksX1_keyOfGreatest_2 22 rfl rfl
theorem dX1_keyOfGreatest_0 : decode cX1_keyOfGreatest 0 = .ok (.aconst_null, 1) := dk_1 (dk_at dksX1_keyOfGreatest_0 0 rfl rfl)
theorem dX1_keyOfGreatest_1 : decode cX1_keyOfGreatest 1 = .ok (.astore_n 1, 1) := dk_76 (dk_at dksX1_keyOfGreatest_0 1 rfl rfl)
theorem dX1_keyOfGreatest_2 : decode cX1_keyOfGreatest 2 = .ok (.aconst_null, 1) := dk_1 (dk_at dksX1_keyOfGreatest_0 2 rfl rfl)
theorem dX1_keyOfGreatest_3 : decode cX1_keyOfGreatest 3 = .ok (.astore_n 2, 1) := dk_77 (dk_at dksX1_keyOfGreatest_0 3 rfl rfl)
theorem dX1_keyOfGreatest_4 : decode cX1_keyOfGreatest 4 = .ok (.aload_n 0, 1) := dk_42 (dk_at dksX1_keyOfGreatest_0 4 rfl rfl)
theorem dX1_keyOfGreatest_5 : decode cX1_keyOfGreatest 5 = .ok (.invokevirtual 272, 3) := dk_182 1 16 (dk_at dksX1_keyOfGreatest_0 5 rfl rfl)
theorem dX1_keyOfGreatest_8 : decode cX1_keyOfGreatest 8 = .ok (.invokeinterface 278 1, 5) := by decide +kernel
theorem dX1_keyOfGreatest_13 : decode cX1_keyOfGreatest 13 = .ok (.astore_n 3, 1) := dk_78 (dk_at dksX1_keyOfGreatest_0 13 rfl rfl)
theorem dX1_keyOfGreatest_14 : decode cX1_keyOfGreatest 14 = .ok (.aload_n 3, 1) := dk_45 (dk_at dksX1_keyOfGreatest_0 14 rfl rfl)
theorem dX1_keyOfGreatest_15 : decode cX1_keyOfGreatest 15 = .ok (.invokeinterface 284 1, 5) := by decide +kernel
theorem dX1_keyOfGreatest_20 : decode cX1_keyOfGreatest 20 = .ok (.ifCond .eq 62, 3) := dk_153 0 62 (dk_at dksX1_keyOfGreatest_0 20 rfl rfl)
theorem dX1_keyOfGreatest_23 : decode cX1_keyOfGreatest 23 = .ok (.aload_n 3, 1) := dk_45 (dk_at dksX1_keyOfGreatest_0 23 rfl rfl)
theorem dX1_keyOfGreatest_24 : decode cX1_keyOfGreatest 24 = .ok (.invokeinterface 290 1, 5) := by decide +kernel
theorem dX1_keyOfGreatest_29 : decode cX1_keyOfGreatest 29 = .ok (.checkcast 294, 3) := dk_192 1 38 (dk_at dksX1_keyOfGreatest_1 5 rfl rfl)
theorem dX1_keyOfGreatest_32 : decode cX1_keyOfGreatest 32 = .ok (.astore 4, 2) := dk_58 4 (dk_at dksX1_keyOfGreatest_1 8 rfl rfl)
theorem dX1_keyOfGreatest_34 : decode cX1_keyOfGreatest 34 = .ok (.aload_n 2, 1) := dk_44 (dk_at dksX1_keyOfGreatest_1 10 rfl rfl)
theorem dX1_keyOfGreatest_35 : decode cX1_keyOfGreatest 35 = .ok (.ifnull 25, 3) := dk_198 0 25 (dk_at dksX1_keyOfGreatest_1 11 rfl rfl)
theorem dX1_keyOfGreatest_38 : decode cX1_keyOfGreatest 38 = .ok (.aload 4, 2) := dk_25 4 (dk_at dksX1_keyOfGreatest_1 14 rfl rfl)
theorem dX1_keyOfGreatest_40 : decode cX1_keyOfGreatest 40 = .ok (.invokeinterface 296 1, 5) := by decide +kernel
theorem dX1_keyOfGreatest_45 : decode cX1_keyOfGreatest 45 = .ok (.checkcast 299, 3) := dk_192 1 43 (dk_at dksX1_keyOfGreatest_1 21 rfl rfl)
theorem dX1_keyOfGreatest_48 : decode cX1_keyOfGreatest 48 = .ok (.aload_n 2, 1) := dk_44 (dk_at dksX1_keyOfGreatest_2 0 rfl rfl)
theorem dX1_keyOfGreatest_49 : decode cX1_keyOfGreatest 49 = .ok (.invokeinterface 301 2, 5) := by decide +kernel
theorem dX1_keyOfGreatest_54 : decode cX1_keyOfGreatest 54 = .ok (.ifCond .gt 6, 3) := dk_157 0 6 (dk_at dksX1_keyOfGreatest_2 6 rfl rfl)
theorem dX1_keyOfGreatest_57 : decode cX1_keyOfGreatest 57 = .ok (.goto (-43), 3) := dk_167 255 213 (dk_at dksX1_keyOfGreatest_2 9 rfl rfl)
theorem dX1_keyOfGreatest_60 : decode cX1_keyOfGreatest 60 = .ok (.aload 4, 2) := dk_25 4 (dk_at dksX1_keyOfGreatest_2 12 rfl rfl)
theorem dX1_keyOfGreatest_62 : decode cX1_keyOfGreatest 62 = .ok (.invokeinterface 305 1, 5) := by decide +kernel
theorem dX1_keyOfGreatest_67 : decode cX1_keyOfGreatest 67 = .ok (.astore_n 1, 1) := dk_76 (dk_at dksX1_keyOfGreatest_2 19 rfl rfl)
theorem dX1_keyOfGreatest_68 : decode cX1_keyOfGreatest 68 = .ok (.aload 4, 2) := dk_25 4 (dk_at dksX1_keyOfGreatest_2 20 rfl rfl)
theorem dX1_keyOfGreatest_70 : decode cX1_keyOfGreatest 70 = .ok (.invokeinterface 296 1, 5) := by decide +kernel
theorem dX1_keyOfGreatest_75 : decode cX1_keyOfGreatest 75 = .ok (.checkcast 299, 3) := dk_192 1 43 (dk_at dksX1_keyOfGreatest_3 5 rfl rfl)
theorem dX1_keyOfGreatest_78 : decode cX1_keyOfGreatest 78 = .ok (.astore_n 2, 1) := dk_77 (dk_at dksX1_keyOfGreatest_3 8 rfl rfl)
theorem dX1_keyOfGreatest_79 : decode cX1_keyOfGreatest 79 = .ok (.goto (-65), 3) := dk_167 255 191 (dk_at dksX1_keyOfGreatest_3 9 rfl rfl)
theorem dX1_keyOfGreatest_82 : decode cX1_keyOfGreatest 82 = .ok (.aload_n 1, 1) := dk_43 (dk_at dksX1_keyOfGreatest_3 12 rfl rfl)
theorem dX1_keyOfGreatest_83 : decode cX1_keyOfGreatest 83 = .ok (.areturn, 1) := dk_176 (dk_at dksX1_keyOfGreatest_3 13 rfl rfl)
abbrev iX1_keyOfGreatest : xM := (yX1_keyOfGreatest, cX1_keyOfGreatest, 5, (some (.object "java/lang/Object")), [])
theorem mX1_keyOfGreatest : xOkM iX1_keyOfGreatest := ⟨by decide +kernel, by decide, q2963, q130⟩
abbrev cX1_looserPegs : ByteArray := prog_1_method_41_code
def yX1_looserPegs : MethodName := ⟨RX1, "looserPegs", "(I)I"⟩
def dkwX1_looserPegs_0 : List UInt8 := [42, 182, 0, 162, 180, 1, 59, 182, 1, 85, 27, 184, 1, 89, 172]
abbrev dktX1_looserPegs_0 : List UInt8 := dkwX1_looserPegs_0 ++ []
theorem dksX1_looserPegs_0 : cX1_looserPegs.data.toList.drop 0 = dktX1_looserPegs_0 := by decide +kernel
theorem dX1_looserPegs_0 : decode cX1_looserPegs 0 = .ok (.aload_n 0, 1) := dk_42 (dk_at dksX1_looserPegs_0 0 rfl rfl)
theorem dX1_looserPegs_1 : decode cX1_looserPegs 1 = .ok (.invokevirtual 162, 3) := dk_182 0 162 (dk_at dksX1_looserPegs_0 1 rfl rfl)
theorem dX1_looserPegs_4 : decode cX1_looserPegs 4 = .ok (.getfield 315, 3) := dk_180 1 59 (dk_at dksX1_looserPegs_0 4 rfl rfl)
theorem dX1_looserPegs_7 : decode cX1_looserPegs 7 = .ok (.invokevirtual 341, 3) := dk_182 1 85 (dk_at dksX1_looserPegs_0 7 rfl rfl)
theorem dX1_looserPegs_10 : decode cX1_looserPegs 10 = .ok (.iload_n 1, 1) := dk_27 (dk_at dksX1_looserPegs_0 10 rfl rfl)
theorem dX1_looserPegs_11 : decode cX1_looserPegs 11 = .ok (.invokestatic 345, 3) := dk_184 1 89 (dk_at dksX1_looserPegs_0 11 rfl rfl)
theorem dX1_looserPegs_14 : decode cX1_looserPegs 14 = .ok (.ireturn, 1) := dk_172 (dk_at dksX1_looserPegs_0 14 rfl rfl)
abbrev iX1_looserPegs : xM := (yX1_looserPegs, cX1_looserPegs, 2, (some .int), [])
theorem mX1_looserPegs : xOkM iX1_looserPegs := ⟨by decide +kernel, by decide, q2978, q130⟩
abbrev cX1_looser : ByteArray := prog_1_method_40_code
def yX1_looser : MethodName := ⟨RX1, "looser", "(Ljava/util/Collection;I)I"⟩
def dkwX1_looser_1 : List UInt8 := [192, 0, 249, 58, 4, 25, 4, 180, 1, 0, 27, 162, 0, 6, 132, 2, 1, 167, 255, 224, 28, 172]
abbrev dktX1_looser_1 : List UInt8 := dkwX1_looser_1 ++ []
def dkwX1_looser_0 : List UInt8 := [3, 61, 42, 185, 1, 82, 1, 0, 78, 45, 185, 1, 28, 1, 0, 153, 0, 29, 45, 185, 1, 34, 1, 0]
abbrev dktX1_looser_0 : List UInt8 := dkwX1_looser_0 ++ dktX1_looser_1
theorem dksX1_looser_0 : cX1_looser.data.toList.drop 0 = dktX1_looser_0 := by decide +kernel
theorem dksX1_looser_1 : cX1_looser.data.toList.drop 24 = dktX1_looser_1 := dk_seg dksX1_looser_0 24 rfl rfl
theorem dX1_looser_0 : decode cX1_looser 0 = .ok (.iconst 0, 1) := dk_3 (dk_at dksX1_looser_0 0 rfl rfl)
theorem dX1_looser_1 : decode cX1_looser 1 = .ok (.istore_n 2, 1) := dk_61 (dk_at dksX1_looser_0 1 rfl rfl)
theorem dX1_looser_2 : decode cX1_looser 2 = .ok (.aload_n 0, 1) := dk_42 (dk_at dksX1_looser_0 2 rfl rfl)
theorem dX1_looser_3 : decode cX1_looser 3 = .ok (.invokeinterface 338 1, 5) := by decide +kernel
theorem dX1_looser_8 : decode cX1_looser 8 = .ok (.astore_n 3, 1) := dk_78 (dk_at dksX1_looser_0 8 rfl rfl)
theorem dX1_looser_9 : decode cX1_looser 9 = .ok (.aload_n 3, 1) := dk_45 (dk_at dksX1_looser_0 9 rfl rfl)
theorem dX1_looser_10 : decode cX1_looser 10 = .ok (.invokeinterface 284 1, 5) := by decide +kernel
theorem dX1_looser_15 : decode cX1_looser 15 = .ok (.ifCond .eq 29, 3) := dk_153 0 29 (dk_at dksX1_looser_0 15 rfl rfl)
theorem dX1_looser_18 : decode cX1_looser 18 = .ok (.aload_n 3, 1) := dk_45 (dk_at dksX1_looser_0 18 rfl rfl)
theorem dX1_looser_19 : decode cX1_looser 19 = .ok (.invokeinterface 290 1, 5) := by decide +kernel
theorem dX1_looser_24 : decode cX1_looser 24 = .ok (.checkcast 249, 3) := dk_192 0 249 (dk_at dksX1_looser_1 0 rfl rfl)
theorem dX1_looser_27 : decode cX1_looser 27 = .ok (.astore 4, 2) := dk_58 4 (dk_at dksX1_looser_1 3 rfl rfl)
theorem dX1_looser_29 : decode cX1_looser 29 = .ok (.aload 4, 2) := dk_25 4 (dk_at dksX1_looser_1 5 rfl rfl)
theorem dX1_looser_31 : decode cX1_looser 31 = .ok (.getfield 256, 3) := dk_180 1 0 (dk_at dksX1_looser_1 7 rfl rfl)
theorem dX1_looser_34 : decode cX1_looser 34 = .ok (.iload_n 1, 1) := dk_27 (dk_at dksX1_looser_1 10 rfl rfl)
theorem dX1_looser_35 : decode cX1_looser 35 = .ok (.if_icmp .ge 6, 3) := dk_162 0 6 (dk_at dksX1_looser_1 11 rfl rfl)
theorem dX1_looser_38 : decode cX1_looser 38 = .ok (.iinc 2 1, 3) := dk_132 2 1 (dk_at dksX1_looser_1 14 rfl rfl)
theorem dX1_looser_41 : decode cX1_looser 41 = .ok (.goto (-32), 3) := dk_167 255 224 (dk_at dksX1_looser_1 17 rfl rfl)
theorem dX1_looser_44 : decode cX1_looser 44 = .ok (.iload_n 2, 1) := dk_28 (dk_at dksX1_looser_1 20 rfl rfl)
theorem dX1_looser_45 : decode cX1_looser 45 = .ok (.ireturn, 1) := dk_172 (dk_at dksX1_looser_1 21 rfl rfl)
abbrev iX1_looser : xM := (yX1_looser, cX1_looser, 5, (some .int), [])
theorem mX1_looser : xOkM iX1_looser := ⟨by decide +kernel, by decide, q3003, q130⟩
abbrev cX1_forgivenStrings : ByteArray := prog_1_method_46_code
def yX1_forgivenStrings : MethodName := ⟨RX1, "forgivenStrings", "()I"⟩
def dkwX1_forgivenStrings_0 : List UInt8 := [42, 182, 0, 162, 180, 1, 105, 182, 1, 109, 172]
abbrev dktX1_forgivenStrings_0 : List UInt8 := dkwX1_forgivenStrings_0 ++ []
theorem dksX1_forgivenStrings_0 : cX1_forgivenStrings.data.toList.drop 0 = dktX1_forgivenStrings_0 := by decide +kernel
theorem dX1_forgivenStrings_0 : decode cX1_forgivenStrings 0 = .ok (.aload_n 0, 1) := dk_42 (dk_at dksX1_forgivenStrings_0 0 rfl rfl)
theorem dX1_forgivenStrings_1 : decode cX1_forgivenStrings 1 = .ok (.invokevirtual 162, 3) := dk_182 0 162 (dk_at dksX1_forgivenStrings_0 1 rfl rfl)
theorem dX1_forgivenStrings_4 : decode cX1_forgivenStrings 4 = .ok (.getfield 361, 3) := dk_180 1 105 (dk_at dksX1_forgivenStrings_0 4 rfl rfl)
theorem dX1_forgivenStrings_7 : decode cX1_forgivenStrings 7 = .ok (.invokevirtual 365, 3) := dk_182 1 109 (dk_at dksX1_forgivenStrings_0 7 rfl rfl)
theorem dX1_forgivenStrings_10 : decode cX1_forgivenStrings 10 = .ok (.ireturn, 1) := dk_172 (dk_at dksX1_forgivenStrings_0 10 rfl rfl)
abbrev iX1_forgivenStrings : xM := (yX1_forgivenStrings, cX1_forgivenStrings, 1, (some .int), [])
theorem mX1_forgivenStrings : xOkM iX1_forgivenStrings := ⟨by decide +kernel, by decide, q3067, q130⟩
abbrev cX1_forgivenFiddler : ByteArray := prog_1_method_47_code
def yX1_forgivenFiddler : MethodName := ⟨RX1, "forgivenFiddler", "(I)I"⟩
def dkwX1_forgivenFiddler_0 : List UInt8 := [42, 182, 0, 162, 27, 182, 1, 112, 77, 44, 199, 0, 7, 2, 167, 0, 7, 44, 180, 1, 80, 172]
abbrev dktX1_forgivenFiddler_0 : List UInt8 := dkwX1_forgivenFiddler_0 ++ []
theorem dksX1_forgivenFiddler_0 : cX1_forgivenFiddler.data.toList.drop 0 = dktX1_forgivenFiddler_0 := by decide +kernel
theorem dX1_forgivenFiddler_0 : decode cX1_forgivenFiddler 0 = .ok (.aload_n 0, 1) := dk_42 (dk_at dksX1_forgivenFiddler_0 0 rfl rfl)
theorem dX1_forgivenFiddler_1 : decode cX1_forgivenFiddler 1 = .ok (.invokevirtual 162, 3) := dk_182 0 162 (dk_at dksX1_forgivenFiddler_0 1 rfl rfl)
theorem dX1_forgivenFiddler_4 : decode cX1_forgivenFiddler 4 = .ok (.iload_n 1, 1) := dk_27 (dk_at dksX1_forgivenFiddler_0 4 rfl rfl)
theorem dX1_forgivenFiddler_5 : decode cX1_forgivenFiddler 5 = .ok (.invokevirtual 368, 3) := dk_182 1 112 (dk_at dksX1_forgivenFiddler_0 5 rfl rfl)
theorem dX1_forgivenFiddler_8 : decode cX1_forgivenFiddler 8 = .ok (.astore_n 2, 1) := dk_77 (dk_at dksX1_forgivenFiddler_0 8 rfl rfl)
theorem dX1_forgivenFiddler_9 : decode cX1_forgivenFiddler 9 = .ok (.aload_n 2, 1) := dk_44 (dk_at dksX1_forgivenFiddler_0 9 rfl rfl)
theorem dX1_forgivenFiddler_10 : decode cX1_forgivenFiddler 10 = .ok (.ifnonnull 7, 3) := dk_199 0 7 (dk_at dksX1_forgivenFiddler_0 10 rfl rfl)
theorem dX1_forgivenFiddler_13 : decode cX1_forgivenFiddler 13 = .ok (.iconst (-1), 1) := dk_2 (dk_at dksX1_forgivenFiddler_0 13 rfl rfl)
theorem dX1_forgivenFiddler_14 : decode cX1_forgivenFiddler 14 = .ok (.goto 7, 3) := dk_167 0 7 (dk_at dksX1_forgivenFiddler_0 14 rfl rfl)
theorem dX1_forgivenFiddler_17 : decode cX1_forgivenFiddler 17 = .ok (.aload_n 2, 1) := dk_44 (dk_at dksX1_forgivenFiddler_0 17 rfl rfl)
theorem dX1_forgivenFiddler_18 : decode cX1_forgivenFiddler 18 = .ok (.getfield 336, 3) := dk_180 1 80 (dk_at dksX1_forgivenFiddler_0 18 rfl rfl)
theorem dX1_forgivenFiddler_21 : decode cX1_forgivenFiddler 21 = .ok (.ireturn, 1) := dk_172 (dk_at dksX1_forgivenFiddler_0 21 rfl rfl)
abbrev iX1_forgivenFiddler : xM := (yX1_forgivenFiddler, cX1_forgivenFiddler, 3, (some .int), [])
theorem mX1_forgivenFiddler : xOkM iX1_forgivenFiddler := ⟨by decide +kernel, by decide, q3082, q130⟩
abbrev cX1_forgivenString : ByteArray := prog_1_method_48_code
def yX1_forgivenString : MethodName := ⟨RX1, "forgivenString", "(I)I"⟩
def dkwX1_forgivenString_0 : List UInt8 := [42, 182, 0, 162, 27, 182, 1, 112, 77, 44, 199, 0, 7, 2, 167, 0, 7, 44, 180, 1, 116, 172]
abbrev dktX1_forgivenString_0 : List UInt8 := dkwX1_forgivenString_0 ++ []
theorem dksX1_forgivenString_0 : cX1_forgivenString.data.toList.drop 0 = dktX1_forgivenString_0 := by decide +kernel
theorem dX1_forgivenString_0 : decode cX1_forgivenString 0 = .ok (.aload_n 0, 1) := dk_42 (dk_at dksX1_forgivenString_0 0 rfl rfl)
theorem dX1_forgivenString_1 : decode cX1_forgivenString 1 = .ok (.invokevirtual 162, 3) := dk_182 0 162 (dk_at dksX1_forgivenString_0 1 rfl rfl)
theorem dX1_forgivenString_4 : decode cX1_forgivenString 4 = .ok (.iload_n 1, 1) := dk_27 (dk_at dksX1_forgivenString_0 4 rfl rfl)
theorem dX1_forgivenString_5 : decode cX1_forgivenString 5 = .ok (.invokevirtual 368, 3) := dk_182 1 112 (dk_at dksX1_forgivenString_0 5 rfl rfl)
theorem dX1_forgivenString_8 : decode cX1_forgivenString 8 = .ok (.astore_n 2, 1) := dk_77 (dk_at dksX1_forgivenString_0 8 rfl rfl)
theorem dX1_forgivenString_9 : decode cX1_forgivenString 9 = .ok (.aload_n 2, 1) := dk_44 (dk_at dksX1_forgivenString_0 9 rfl rfl)
theorem dX1_forgivenString_10 : decode cX1_forgivenString 10 = .ok (.ifnonnull 7, 3) := dk_199 0 7 (dk_at dksX1_forgivenString_0 10 rfl rfl)
theorem dX1_forgivenString_13 : decode cX1_forgivenString 13 = .ok (.iconst (-1), 1) := dk_2 (dk_at dksX1_forgivenString_0 13 rfl rfl)
theorem dX1_forgivenString_14 : decode cX1_forgivenString 14 = .ok (.goto 7, 3) := dk_167 0 7 (dk_at dksX1_forgivenString_0 14 rfl rfl)
theorem dX1_forgivenString_17 : decode cX1_forgivenString 17 = .ok (.aload_n 2, 1) := dk_44 (dk_at dksX1_forgivenString_0 17 rfl rfl)
theorem dX1_forgivenString_18 : decode cX1_forgivenString 18 = .ok (.getfield 372, 3) := dk_180 1 116 (dk_at dksX1_forgivenString_0 18 rfl rfl)
theorem dX1_forgivenString_21 : decode cX1_forgivenString 21 = .ok (.ireturn, 1) := dk_172 (dk_at dksX1_forgivenString_0 21 rfl rfl)
abbrev iX1_forgivenString : xM := (yX1_forgivenString, cX1_forgivenString, 3, (some .int), [])
theorem mX1_forgivenString : xOkM iX1_forgivenString := ⟨by decide +kernel, by decide, q3090, q130⟩
abbrev cX1_nextTurns : ByteArray := prog_1_method_52_code
def yX1_nextTurns : MethodName := ⟨RX1, "nextTurns", "()I"⟩
def dkwX1_nextTurns_0 : List UInt8 := [42, 182, 1, 122, 180, 1, 128, 42, 182, 0, 162, 180, 1, 128, 100, 172]
abbrev dktX1_nextTurns_0 : List UInt8 := dkwX1_nextTurns_0 ++ []
theorem dksX1_nextTurns_0 : cX1_nextTurns.data.toList.drop 0 = dktX1_nextTurns_0 := by decide +kernel
theorem dX1_nextTurns_0 : decode cX1_nextTurns 0 = .ok (.aload_n 0, 1) := dk_42 (dk_at dksX1_nextTurns_0 0 rfl rfl)
theorem dX1_nextTurns_1 : decode cX1_nextTurns 1 = .ok (.invokevirtual 378, 3) := dk_182 1 122 (dk_at dksX1_nextTurns_0 1 rfl rfl)
theorem dX1_nextTurns_4 : decode cX1_nextTurns 4 = .ok (.getfield 384, 3) := dk_180 1 128 (dk_at dksX1_nextTurns_0 4 rfl rfl)
theorem dX1_nextTurns_7 : decode cX1_nextTurns 7 = .ok (.aload_n 0, 1) := dk_42 (dk_at dksX1_nextTurns_0 7 rfl rfl)
theorem dX1_nextTurns_8 : decode cX1_nextTurns 8 = .ok (.invokevirtual 162, 3) := dk_182 0 162 (dk_at dksX1_nextTurns_0 8 rfl rfl)
theorem dX1_nextTurns_11 : decode cX1_nextTurns 11 = .ok (.getfield 384, 3) := dk_180 1 128 (dk_at dksX1_nextTurns_0 11 rfl rfl)
theorem dX1_nextTurns_14 : decode cX1_nextTurns 14 = .ok (.isub, 1) := dk_100 (dk_at dksX1_nextTurns_0 14 rfl rfl)
theorem dX1_nextTurns_15 : decode cX1_nextTurns 15 = .ok (.ireturn, 1) := dk_172 (dk_at dksX1_nextTurns_0 15 rfl rfl)
abbrev iX1_nextTurns : xM := (yX1_nextTurns, cX1_nextTurns, 1, (some .int), [])
theorem mX1_nextTurns : xOkM iX1_nextTurns := ⟨by decide +kernel, by decide, q3094, q130⟩
abbrev cX1_tunedHall : ByteArray := prog_1_method_49_code
def yX1_tunedHall : MethodName := ⟨RX1, "tunedHall", "()LFiddleRow$Hall;"⟩
def dkwX1_tunedHall_0 : List UInt8 := [42, 182, 0, 162, 182, 0, 165, 76, 43, 182, 1, 119, 61, 43, 176]
abbrev dktX1_tunedHall_0 : List UInt8 := dkwX1_tunedHall_0 ++ []
theorem dksX1_tunedHall_0 : cX1_tunedHall.data.toList.drop 0 = dktX1_tunedHall_0 := by decide +kernel
theorem dX1_tunedHall_0 : decode cX1_tunedHall 0 = .ok (.aload_n 0, 1) := dk_42 (dk_at dksX1_tunedHall_0 0 rfl rfl)
theorem dX1_tunedHall_1 : decode cX1_tunedHall 1 = .ok (.invokevirtual 162, 3) := dk_182 0 162 (dk_at dksX1_tunedHall_0 1 rfl rfl)
theorem dX1_tunedHall_4 : decode cX1_tunedHall 4 = .ok (.invokevirtual 165, 3) := dk_182 0 165 (dk_at dksX1_tunedHall_0 4 rfl rfl)
theorem dX1_tunedHall_7 : decode cX1_tunedHall 7 = .ok (.astore_n 1, 1) := dk_76 (dk_at dksX1_tunedHall_0 7 rfl rfl)
theorem dX1_tunedHall_8 : decode cX1_tunedHall 8 = .ok (.aload_n 1, 1) := dk_43 (dk_at dksX1_tunedHall_0 8 rfl rfl)
theorem dX1_tunedHall_9 : decode cX1_tunedHall 9 = .ok (.invokevirtual 375, 3) := dk_182 1 119 (dk_at dksX1_tunedHall_0 9 rfl rfl)
theorem dX1_tunedHall_12 : decode cX1_tunedHall 12 = .ok (.istore_n 2, 1) := dk_61 (dk_at dksX1_tunedHall_0 12 rfl rfl)
theorem dX1_tunedHall_13 : decode cX1_tunedHall 13 = .ok (.aload_n 1, 1) := dk_43 (dk_at dksX1_tunedHall_0 13 rfl rfl)
theorem dX1_tunedHall_14 : decode cX1_tunedHall 14 = .ok (.areturn, 1) := dk_176 (dk_at dksX1_tunedHall_0 14 rfl rfl)
abbrev iX1_tunedHall : xM := (yX1_tunedHall, cX1_tunedHall, 3, (some (.object "FiddleRow$Hall")), [])
theorem mX1_tunedHall : xOkM iX1_tunedHall := ⟨by decide +kernel, by decide, q3098, q130⟩
abbrev cX1_nextInTune : ByteArray := prog_1_method_53_code
def yX1_nextInTune : MethodName := ⟨RX1, "nextInTune", "()I"⟩
def dkwX1_nextInTune_0 : List UInt8 := [42, 182, 0, 162, 182, 0, 165, 182, 1, 119, 172]
abbrev dktX1_nextInTune_0 : List UInt8 := dkwX1_nextInTune_0 ++ []
theorem dksX1_nextInTune_0 : cX1_nextInTune.data.toList.drop 0 = dktX1_nextInTune_0 := by decide +kernel
theorem dX1_nextInTune_0 : decode cX1_nextInTune 0 = .ok (.aload_n 0, 1) := dk_42 (dk_at dksX1_nextInTune_0 0 rfl rfl)
theorem dX1_nextInTune_1 : decode cX1_nextInTune 1 = .ok (.invokevirtual 162, 3) := dk_182 0 162 (dk_at dksX1_nextInTune_0 1 rfl rfl)
theorem dX1_nextInTune_4 : decode cX1_nextInTune 4 = .ok (.invokevirtual 165, 3) := dk_182 0 165 (dk_at dksX1_nextInTune_0 4 rfl rfl)
theorem dX1_nextInTune_7 : decode cX1_nextInTune 7 = .ok (.invokevirtual 375, 3) := dk_182 1 119 (dk_at dksX1_nextInTune_0 7 rfl rfl)
theorem dX1_nextInTune_10 : decode cX1_nextInTune 10 = .ok (.ireturn, 1) := dk_172 (dk_at dksX1_nextInTune_0 10 rfl rfl)
abbrev iX1_nextInTune : xM := (yX1_nextInTune, cX1_nextInTune, 1, (some .int), [])
theorem mX1_nextInTune : xOkM iX1_nextInTune := ⟨by decide +kernel, by decide, q3103, q130⟩
abbrev cX1_roundCount : ByteArray := prog_1_method_54_code
def yX1_roundCount : MethodName := ⟨RX1, "roundCount", "()I"⟩
def dkwX1_roundCount_0 : List UInt8 := [42, 182, 0, 162, 180, 1, 131, 172]
abbrev dktX1_roundCount_0 : List UInt8 := dkwX1_roundCount_0 ++ []
theorem dksX1_roundCount_0 : cX1_roundCount.data.toList.drop 0 = dktX1_roundCount_0 := by decide +kernel
theorem dX1_roundCount_0 : decode cX1_roundCount 0 = .ok (.aload_n 0, 1) := dk_42 (dk_at dksX1_roundCount_0 0 rfl rfl)
theorem dX1_roundCount_1 : decode cX1_roundCount 1 = .ok (.invokevirtual 162, 3) := dk_182 0 162 (dk_at dksX1_roundCount_0 1 rfl rfl)
theorem dX1_roundCount_4 : decode cX1_roundCount 4 = .ok (.getfield 387, 3) := dk_180 1 131 (dk_at dksX1_roundCount_0 4 rfl rfl)
theorem dX1_roundCount_7 : decode cX1_roundCount 7 = .ok (.ireturn, 1) := dk_172 (dk_at dksX1_roundCount_0 7 rfl rfl)
abbrev iX1_roundCount : xM := (yX1_roundCount, cX1_roundCount, 1, (some .int), [])
theorem mX1_roundCount : xOkM iX1_roundCount := ⟨by decide +kernel, by decide, q3107, q130⟩
abbrev cX1_turnCount : ByteArray := prog_1_method_55_code
def yX1_turnCount : MethodName := ⟨RX1, "turnCount", "()I"⟩
def dkwX1_turnCount_0 : List UInt8 := [42, 182, 0, 162, 180, 1, 128, 172]
abbrev dktX1_turnCount_0 : List UInt8 := dkwX1_turnCount_0 ++ []
theorem dksX1_turnCount_0 : cX1_turnCount.data.toList.drop 0 = dktX1_turnCount_0 := by decide +kernel
theorem dX1_turnCount_0 : decode cX1_turnCount 0 = .ok (.aload_n 0, 1) := dk_42 (dk_at dksX1_turnCount_0 0 rfl rfl)
theorem dX1_turnCount_1 : decode cX1_turnCount 1 = .ok (.invokevirtual 162, 3) := dk_182 0 162 (dk_at dksX1_turnCount_0 1 rfl rfl)
theorem dX1_turnCount_4 : decode cX1_turnCount 4 = .ok (.getfield 384, 3) := dk_180 1 128 (dk_at dksX1_turnCount_0 4 rfl rfl)
theorem dX1_turnCount_7 : decode cX1_turnCount 7 = .ok (.ireturn, 1) := dk_172 (dk_at dksX1_turnCount_0 7 rfl rfl)
abbrev iX1_turnCount : xM := (yX1_turnCount, cX1_turnCount, 1, (some .int), [])
theorem mX1_turnCount : xOkM iX1_turnCount := ⟨by decide +kernel, by decide, q3111, q130⟩
abbrev cX1_forgivenCount : ByteArray := prog_1_method_56_code
def yX1_forgivenCount : MethodName := ⟨RX1, "forgivenCount", "()I"⟩
def dkwX1_forgivenCount_0 : List UInt8 := [42, 182, 0, 162, 180, 1, 134, 172]
abbrev dktX1_forgivenCount_0 : List UInt8 := dkwX1_forgivenCount_0 ++ []
theorem dksX1_forgivenCount_0 : cX1_forgivenCount.data.toList.drop 0 = dktX1_forgivenCount_0 := by decide +kernel
theorem dX1_forgivenCount_0 : decode cX1_forgivenCount 0 = .ok (.aload_n 0, 1) := dk_42 (dk_at dksX1_forgivenCount_0 0 rfl rfl)
theorem dX1_forgivenCount_1 : decode cX1_forgivenCount 1 = .ok (.invokevirtual 162, 3) := dk_182 0 162 (dk_at dksX1_forgivenCount_0 1 rfl rfl)
theorem dX1_forgivenCount_4 : decode cX1_forgivenCount 4 = .ok (.getfield 390, 3) := dk_180 1 134 (dk_at dksX1_forgivenCount_0 4 rfl rfl)
theorem dX1_forgivenCount_7 : decode cX1_forgivenCount 7 = .ok (.ireturn, 1) := dk_172 (dk_at dksX1_forgivenCount_0 7 rfl rfl)
abbrev iX1_forgivenCount : xM := (yX1_forgivenCount, cX1_forgivenCount, 1, (some .int), [])
theorem mX1_forgivenCount : xOkM iX1_forgivenCount := ⟨by decide +kernel, by decide, q3115, q130⟩
abbrev cX1_breakCount : ByteArray := prog_1_method_57_code
def yX1_breakCount : MethodName := ⟨RX1, "breakCount", "()I"⟩
def dkwX1_breakCount_0 : List UInt8 := [42, 182, 0, 162, 180, 1, 137, 172]
abbrev dktX1_breakCount_0 : List UInt8 := dkwX1_breakCount_0 ++ []
theorem dksX1_breakCount_0 : cX1_breakCount.data.toList.drop 0 = dktX1_breakCount_0 := by decide +kernel
theorem dX1_breakCount_0 : decode cX1_breakCount 0 = .ok (.aload_n 0, 1) := dk_42 (dk_at dksX1_breakCount_0 0 rfl rfl)
theorem dX1_breakCount_1 : decode cX1_breakCount 1 = .ok (.invokevirtual 162, 3) := dk_182 0 162 (dk_at dksX1_breakCount_0 1 rfl rfl)
theorem dX1_breakCount_4 : decode cX1_breakCount 4 = .ok (.getfield 393, 3) := dk_180 1 137 (dk_at dksX1_breakCount_0 4 rfl rfl)
theorem dX1_breakCount_7 : decode cX1_breakCount 7 = .ok (.ireturn, 1) := dk_172 (dk_at dksX1_breakCount_0 7 rfl rfl)
abbrev iX1_breakCount : xM := (yX1_breakCount, cX1_breakCount, 1, (some .int), [])
theorem mX1_breakCount : xOkM iX1_breakCount := ⟨by decide +kernel, by decide, q3119, q130⟩
abbrev cX1_meanDeviation : ByteArray := prog_1_method_58_code
def yX1_meanDeviation : MethodName := ⟨RX1, "meanDeviation", "()D"⟩
def dkwX1_meanDeviation_3 : List UInt8 := [154, 0, 7, 14, 167, 0, 8, 27, 135, 28, 135, 111, 175]
abbrev dktX1_meanDeviation_3 : List UInt8 := dkwX1_meanDeviation_3 ++ []
def dkwX1_meanDeviation_2 : List UInt8 := [153, 0, 6, 167, 255, 228, 27, 25, 4, 180, 0, 248, 184, 1, 7, 96, 60, 132, 2, 1, 167, 255, 211, 28]
abbrev dktX1_meanDeviation_2 : List UInt8 := dkwX1_meanDeviation_2 ++ dktX1_meanDeviation_3
def dkwX1_meanDeviation_1 : List UInt8 := [185, 1, 28, 1, 0, 153, 0, 42, 45, 185, 1, 34, 1, 0, 192, 0, 249, 58, 4, 25, 4, 180, 1, 3]
abbrev dktX1_meanDeviation_1 : List UInt8 := dkwX1_meanDeviation_1 ++ dktX1_meanDeviation_2
def dkwX1_meanDeviation_0 : List UInt8 := [3, 60, 3, 61, 42, 182, 0, 162, 180, 1, 59, 182, 1, 85, 185, 1, 82, 1, 0, 78, 45]
abbrev dktX1_meanDeviation_0 : List UInt8 := dkwX1_meanDeviation_0 ++ dktX1_meanDeviation_1
theorem dksX1_meanDeviation_0 : cX1_meanDeviation.data.toList.drop 0 = dktX1_meanDeviation_0 := by decide +kernel
theorem dksX1_meanDeviation_1 : cX1_meanDeviation.data.toList.drop 21 = dktX1_meanDeviation_1 := dk_seg dksX1_meanDeviation_0 21 rfl rfl
theorem dksX1_meanDeviation_2 : cX1_meanDeviation.data.toList.drop 45 = dktX1_meanDeviation_2 := dk_seg dksX1_meanDeviation_1 24 rfl rfl
theorem dksX1_meanDeviation_3 : cX1_meanDeviation.data.toList.drop 69 = dktX1_meanDeviation_3 := dk_seg dksX1_meanDeviation_2 24 rfl rfl
theorem dX1_meanDeviation_0 : decode cX1_meanDeviation 0 = .ok (.iconst 0, 1) := dk_3 (dk_at dksX1_meanDeviation_0 0 rfl rfl)
theorem dX1_meanDeviation_1 : decode cX1_meanDeviation 1 = .ok (.istore_n 1, 1) := dk_60 (dk_at dksX1_meanDeviation_0 1 rfl rfl)
theorem dX1_meanDeviation_2 : decode cX1_meanDeviation 2 = .ok (.iconst 0, 1) := dk_3 (dk_at dksX1_meanDeviation_0 2 rfl rfl)
theorem dX1_meanDeviation_3 : decode cX1_meanDeviation 3 = .ok (.istore_n 2, 1) := dk_61 (dk_at dksX1_meanDeviation_0 3 rfl rfl)
theorem dX1_meanDeviation_4 : decode cX1_meanDeviation 4 = .ok (.aload_n 0, 1) := dk_42 (dk_at dksX1_meanDeviation_0 4 rfl rfl)
theorem dX1_meanDeviation_5 : decode cX1_meanDeviation 5 = .ok (.invokevirtual 162, 3) := dk_182 0 162 (dk_at dksX1_meanDeviation_0 5 rfl rfl)
theorem dX1_meanDeviation_8 : decode cX1_meanDeviation 8 = .ok (.getfield 315, 3) := dk_180 1 59 (dk_at dksX1_meanDeviation_0 8 rfl rfl)
theorem dX1_meanDeviation_11 : decode cX1_meanDeviation 11 = .ok (.invokevirtual 341, 3) := dk_182 1 85 (dk_at dksX1_meanDeviation_0 11 rfl rfl)
theorem dX1_meanDeviation_14 : decode cX1_meanDeviation 14 = .ok (.invokeinterface 338 1, 5) := by decide +kernel
theorem dX1_meanDeviation_19 : decode cX1_meanDeviation 19 = .ok (.astore_n 3, 1) := dk_78 (dk_at dksX1_meanDeviation_0 19 rfl rfl)
theorem dX1_meanDeviation_20 : decode cX1_meanDeviation 20 = .ok (.aload_n 3, 1) := dk_45 (dk_at dksX1_meanDeviation_0 20 rfl rfl)
theorem dX1_meanDeviation_21 : decode cX1_meanDeviation 21 = .ok (.invokeinterface 284 1, 5) := by decide +kernel
theorem dX1_meanDeviation_26 : decode cX1_meanDeviation 26 = .ok (.ifCond .eq 42, 3) := dk_153 0 42 (dk_at dksX1_meanDeviation_1 5 rfl rfl)
theorem dX1_meanDeviation_29 : decode cX1_meanDeviation 29 = .ok (.aload_n 3, 1) := dk_45 (dk_at dksX1_meanDeviation_1 8 rfl rfl)
theorem dX1_meanDeviation_30 : decode cX1_meanDeviation 30 = .ok (.invokeinterface 290 1, 5) := by decide +kernel
theorem dX1_meanDeviation_35 : decode cX1_meanDeviation 35 = .ok (.checkcast 249, 3) := dk_192 0 249 (dk_at dksX1_meanDeviation_1 14 rfl rfl)
theorem dX1_meanDeviation_38 : decode cX1_meanDeviation 38 = .ok (.astore 4, 2) := dk_58 4 (dk_at dksX1_meanDeviation_1 17 rfl rfl)
theorem dX1_meanDeviation_40 : decode cX1_meanDeviation 40 = .ok (.aload 4, 2) := dk_25 4 (dk_at dksX1_meanDeviation_1 19 rfl rfl)
theorem dX1_meanDeviation_42 : decode cX1_meanDeviation 42 = .ok (.getfield 259, 3) := dk_180 1 3 (dk_at dksX1_meanDeviation_1 21 rfl rfl)
theorem dX1_meanDeviation_45 : decode cX1_meanDeviation 45 = .ok (.ifCond .eq 6, 3) := dk_153 0 6 (dk_at dksX1_meanDeviation_2 0 rfl rfl)
theorem dX1_meanDeviation_48 : decode cX1_meanDeviation 48 = .ok (.goto (-28), 3) := dk_167 255 228 (dk_at dksX1_meanDeviation_2 3 rfl rfl)
theorem dX1_meanDeviation_51 : decode cX1_meanDeviation 51 = .ok (.iload_n 1, 1) := dk_27 (dk_at dksX1_meanDeviation_2 6 rfl rfl)
theorem dX1_meanDeviation_52 : decode cX1_meanDeviation 52 = .ok (.aload 4, 2) := dk_25 4 (dk_at dksX1_meanDeviation_2 7 rfl rfl)
theorem dX1_meanDeviation_54 : decode cX1_meanDeviation 54 = .ok (.getfield 248, 3) := dk_180 0 248 (dk_at dksX1_meanDeviation_2 9 rfl rfl)
theorem dX1_meanDeviation_57 : decode cX1_meanDeviation 57 = .ok (.invokestatic 263, 3) := dk_184 1 7 (dk_at dksX1_meanDeviation_2 12 rfl rfl)
theorem dX1_meanDeviation_60 : decode cX1_meanDeviation 60 = .ok (.iadd, 1) := dk_96 (dk_at dksX1_meanDeviation_2 15 rfl rfl)
theorem dX1_meanDeviation_61 : decode cX1_meanDeviation 61 = .ok (.istore_n 1, 1) := dk_60 (dk_at dksX1_meanDeviation_2 16 rfl rfl)
theorem dX1_meanDeviation_62 : decode cX1_meanDeviation 62 = .ok (.iinc 2 1, 3) := dk_132 2 1 (dk_at dksX1_meanDeviation_2 17 rfl rfl)
theorem dX1_meanDeviation_65 : decode cX1_meanDeviation 65 = .ok (.goto (-45), 3) := dk_167 255 211 (dk_at dksX1_meanDeviation_2 20 rfl rfl)
theorem dX1_meanDeviation_68 : decode cX1_meanDeviation 68 = .ok (.iload_n 2, 1) := dk_28 (dk_at dksX1_meanDeviation_2 23 rfl rfl)
theorem dX1_meanDeviation_69 : decode cX1_meanDeviation 69 = .ok (.ifCond .ne 7, 3) := dk_154 0 7 (dk_at dksX1_meanDeviation_3 0 rfl rfl)
theorem dX1_meanDeviation_72 : decode cX1_meanDeviation 72 = .ok (.dconst 0, 1) := dk_14 (dk_at dksX1_meanDeviation_3 3 rfl rfl)
theorem dX1_meanDeviation_73 : decode cX1_meanDeviation 73 = .ok (.goto 8, 3) := dk_167 0 8 (dk_at dksX1_meanDeviation_3 4 rfl rfl)
theorem dX1_meanDeviation_76 : decode cX1_meanDeviation 76 = .ok (.iload_n 1, 1) := dk_27 (dk_at dksX1_meanDeviation_3 7 rfl rfl)
theorem dX1_meanDeviation_77 : decode cX1_meanDeviation 77 = .ok (.i2d, 1) := dk_135 (dk_at dksX1_meanDeviation_3 8 rfl rfl)
theorem dX1_meanDeviation_78 : decode cX1_meanDeviation 78 = .ok (.iload_n 2, 1) := dk_28 (dk_at dksX1_meanDeviation_3 9 rfl rfl)
theorem dX1_meanDeviation_79 : decode cX1_meanDeviation 79 = .ok (.i2d, 1) := dk_135 (dk_at dksX1_meanDeviation_3 10 rfl rfl)
theorem dX1_meanDeviation_80 : decode cX1_meanDeviation 80 = .ok (.ddiv, 1) := dk_111 (dk_at dksX1_meanDeviation_3 11 rfl rfl)
theorem dX1_meanDeviation_81 : decode cX1_meanDeviation 81 = .ok (.dreturn, 1) := dk_175 (dk_at dksX1_meanDeviation_3 12 rfl rfl)
abbrev iX1_meanDeviation : xM := (yX1_meanDeviation, cX1_meanDeviation, 5, (some .double), [])
theorem mX1_meanDeviation : xOkM iX1_meanDeviation := ⟨by decide +kernel, by decide, q3123, q130⟩
abbrev cX1_inTuneShare : ByteArray := prog_1_method_59_code
def yX1_inTuneShare : MethodName := ⟨RX1, "inTuneShare", "()F"⟩
def dkwX1_inTuneShare_2 : List UInt8 := [42, 182, 0, 162, 180, 0, 195, 182, 0, 199, 134, 110, 174]
abbrev dktX1_inTuneShare_2 : List UInt8 := dkwX1_inTuneShare_2 ++ []
def dkwX1_inTuneShare_1 : List UInt8 := [185, 1, 34, 1, 0, 192, 0, 211, 78, 45, 182, 1, 93, 153, 0, 6, 132, 1, 1, 167, 255, 227, 27, 134]
abbrev dktX1_inTuneShare_1 : List UInt8 := dkwX1_inTuneShare_1 ++ dktX1_inTuneShare_2
def dkwX1_inTuneShare_0 : List UInt8 := [3, 60, 42, 182, 0, 162, 180, 0, 195, 182, 1, 53, 77, 44, 185, 1, 28, 1, 0, 153, 0, 26, 44]
abbrev dktX1_inTuneShare_0 : List UInt8 := dkwX1_inTuneShare_0 ++ dktX1_inTuneShare_1
theorem dksX1_inTuneShare_0 : cX1_inTuneShare.data.toList.drop 0 = dktX1_inTuneShare_0 := by decide +kernel
theorem dksX1_inTuneShare_1 : cX1_inTuneShare.data.toList.drop 23 = dktX1_inTuneShare_1 := dk_seg dksX1_inTuneShare_0 23 rfl rfl
theorem dksX1_inTuneShare_2 : cX1_inTuneShare.data.toList.drop 47 = dktX1_inTuneShare_2 := dk_seg dksX1_inTuneShare_1 24 rfl rfl
theorem dX1_inTuneShare_0 : decode cX1_inTuneShare 0 = .ok (.iconst 0, 1) := dk_3 (dk_at dksX1_inTuneShare_0 0 rfl rfl)
theorem dX1_inTuneShare_1 : decode cX1_inTuneShare 1 = .ok (.istore_n 1, 1) := dk_60 (dk_at dksX1_inTuneShare_0 1 rfl rfl)
theorem dX1_inTuneShare_2 : decode cX1_inTuneShare 2 = .ok (.aload_n 0, 1) := dk_42 (dk_at dksX1_inTuneShare_0 2 rfl rfl)
theorem dX1_inTuneShare_3 : decode cX1_inTuneShare 3 = .ok (.invokevirtual 162, 3) := dk_182 0 162 (dk_at dksX1_inTuneShare_0 3 rfl rfl)
theorem dX1_inTuneShare_6 : decode cX1_inTuneShare 6 = .ok (.getfield 195, 3) := dk_180 0 195 (dk_at dksX1_inTuneShare_0 6 rfl rfl)
theorem dX1_inTuneShare_9 : decode cX1_inTuneShare 9 = .ok (.invokevirtual 309, 3) := dk_182 1 53 (dk_at dksX1_inTuneShare_0 9 rfl rfl)
theorem dX1_inTuneShare_12 : decode cX1_inTuneShare 12 = .ok (.astore_n 2, 1) := dk_77 (dk_at dksX1_inTuneShare_0 12 rfl rfl)
theorem dX1_inTuneShare_13 : decode cX1_inTuneShare 13 = .ok (.aload_n 2, 1) := dk_44 (dk_at dksX1_inTuneShare_0 13 rfl rfl)
theorem dX1_inTuneShare_14 : decode cX1_inTuneShare 14 = .ok (.invokeinterface 284 1, 5) := by decide +kernel
theorem dX1_inTuneShare_19 : decode cX1_inTuneShare 19 = .ok (.ifCond .eq 26, 3) := dk_153 0 26 (dk_at dksX1_inTuneShare_0 19 rfl rfl)
theorem dX1_inTuneShare_22 : decode cX1_inTuneShare 22 = .ok (.aload_n 2, 1) := dk_44 (dk_at dksX1_inTuneShare_0 22 rfl rfl)
theorem dX1_inTuneShare_23 : decode cX1_inTuneShare 23 = .ok (.invokeinterface 290 1, 5) := by decide +kernel
theorem dX1_inTuneShare_28 : decode cX1_inTuneShare 28 = .ok (.checkcast 211, 3) := dk_192 0 211 (dk_at dksX1_inTuneShare_1 5 rfl rfl)
theorem dX1_inTuneShare_31 : decode cX1_inTuneShare 31 = .ok (.astore_n 3, 1) := dk_78 (dk_at dksX1_inTuneShare_1 8 rfl rfl)
theorem dX1_inTuneShare_32 : decode cX1_inTuneShare 32 = .ok (.aload_n 3, 1) := dk_45 (dk_at dksX1_inTuneShare_1 9 rfl rfl)
theorem dX1_inTuneShare_33 : decode cX1_inTuneShare 33 = .ok (.invokevirtual 349, 3) := dk_182 1 93 (dk_at dksX1_inTuneShare_1 10 rfl rfl)
theorem dX1_inTuneShare_36 : decode cX1_inTuneShare 36 = .ok (.ifCond .eq 6, 3) := dk_153 0 6 (dk_at dksX1_inTuneShare_1 13 rfl rfl)
theorem dX1_inTuneShare_39 : decode cX1_inTuneShare 39 = .ok (.iinc 1 1, 3) := dk_132 1 1 (dk_at dksX1_inTuneShare_1 16 rfl rfl)
theorem dX1_inTuneShare_42 : decode cX1_inTuneShare 42 = .ok (.goto (-29), 3) := dk_167 255 227 (dk_at dksX1_inTuneShare_1 19 rfl rfl)
theorem dX1_inTuneShare_45 : decode cX1_inTuneShare 45 = .ok (.iload_n 1, 1) := dk_27 (dk_at dksX1_inTuneShare_1 22 rfl rfl)
theorem dX1_inTuneShare_46 : decode cX1_inTuneShare 46 = .ok (.i2f, 1) := dk_134 (dk_at dksX1_inTuneShare_1 23 rfl rfl)
theorem dX1_inTuneShare_47 : decode cX1_inTuneShare 47 = .ok (.aload_n 0, 1) := dk_42 (dk_at dksX1_inTuneShare_2 0 rfl rfl)
theorem dX1_inTuneShare_48 : decode cX1_inTuneShare 48 = .ok (.invokevirtual 162, 3) := dk_182 0 162 (dk_at dksX1_inTuneShare_2 1 rfl rfl)
theorem dX1_inTuneShare_51 : decode cX1_inTuneShare 51 = .ok (.getfield 195, 3) := dk_180 0 195 (dk_at dksX1_inTuneShare_2 4 rfl rfl)
theorem dX1_inTuneShare_54 : decode cX1_inTuneShare 54 = .ok (.invokevirtual 199, 3) := dk_182 0 199 (dk_at dksX1_inTuneShare_2 7 rfl rfl)
theorem dX1_inTuneShare_57 : decode cX1_inTuneShare 57 = .ok (.i2f, 1) := dk_134 (dk_at dksX1_inTuneShare_2 10 rfl rfl)
theorem dX1_inTuneShare_58 : decode cX1_inTuneShare 58 = .ok (.fdiv, 1) := dk_110 (dk_at dksX1_inTuneShare_2 11 rfl rfl)
theorem dX1_inTuneShare_59 : decode cX1_inTuneShare 59 = .ok (.freturn, 1) := dk_174 (dk_at dksX1_inTuneShare_2 12 rfl rfl)
abbrev iX1_inTuneShare : xM := (yX1_inTuneShare, cX1_inTuneShare, 4, (some .float), [])
theorem mX1_inTuneShare : xOkM iX1_inTuneShare := ⟨by decide +kernel, by decide, q3127, q130⟩
abbrev cX1_contradictions : ByteArray := prog_1_method_61_code
def yX1_contradictions : MethodName := ⟨RX1, "contradictions", "()I"⟩
def dkwX1_contradictions_6 : List UInt8 := [182, 1, 152, 45, 180, 1, 99, 159, 0, 6, 132, 1, 1, 167, 255, 175, 27, 172]
abbrev dktX1_contradictions_6 : List UInt8 := dkwX1_contradictions_6 ++ []
def dkwX1_contradictions_5 : List UInt8 := [184, 1, 7, 5, 45, 180, 1, 99, 104, 164, 0, 6, 132, 1, 1, 132, 4, 1, 167, 255, 225, 42, 45]
abbrev dktX1_contradictions_5 : List UInt8 := dkwX1_contradictions_5 ++ dktX1_contradictions_6
def dkwX1_contradictions_4 : List UInt8 := [154, 0, 6, 167, 255, 230, 3, 54, 4, 21, 4, 7, 162, 0, 31, 45, 180, 1, 102, 21, 4, 46]
abbrev dktX1_contradictions_4 : List UInt8 := dkwX1_contradictions_4 ++ dktX1_contradictions_5
def dkwX1_contradictions_3 : List UInt8 := [185, 1, 28, 1, 0, 153, 0, 78, 44, 185, 1, 34, 1, 0, 192, 0, 211, 78, 45, 182, 1, 93]
abbrev dktX1_contradictions_3 : List UInt8 := dkwX1_contradictions_3 ++ dktX1_contradictions_4
def dkwX1_contradictions_2 : List UInt8 := [180, 1, 149, 100, 184, 1, 7, 96, 60, 42, 182, 0, 162, 180, 0, 195, 182, 1, 53, 77, 44]
abbrev dktX1_contradictions_2 : List UInt8 := dkwX1_contradictions_2 ++ dktX1_contradictions_3
def dkwX1_contradictions_1 : List UInt8 := [184, 1, 7, 42, 182, 0, 162, 180, 1, 146, 42, 182, 0, 162, 180, 0, 189, 100, 42, 182, 0, 162]
abbrev dktX1_contradictions_1 : List UInt8 := dkwX1_contradictions_1 ++ dktX1_contradictions_2
def dkwX1_contradictions_0 : List UInt8 := [42, 182, 0, 162, 180, 1, 140, 42, 182, 0, 162, 180, 0, 186, 100, 42, 182, 0, 162, 180, 1, 143, 100]
abbrev dktX1_contradictions_0 : List UInt8 := dkwX1_contradictions_0 ++ dktX1_contradictions_1
theorem dksX1_contradictions_0 : cX1_contradictions.data.toList.drop 0 = dktX1_contradictions_0 := by decide +kernel
theorem dksX1_contradictions_1 : cX1_contradictions.data.toList.drop 23 = dktX1_contradictions_1 := dk_seg dksX1_contradictions_0 23 rfl rfl
theorem dksX1_contradictions_2 : cX1_contradictions.data.toList.drop 45 = dktX1_contradictions_2 := dk_seg dksX1_contradictions_1 22 rfl rfl
theorem dksX1_contradictions_3 : cX1_contradictions.data.toList.drop 66 = dktX1_contradictions_3 := dk_seg dksX1_contradictions_2 21 rfl rfl
theorem dksX1_contradictions_4 : cX1_contradictions.data.toList.drop 88 = dktX1_contradictions_4 := dk_seg dksX1_contradictions_3 22 rfl rfl
theorem dksX1_contradictions_5 : cX1_contradictions.data.toList.drop 110 = dktX1_contradictions_5 := dk_seg dksX1_contradictions_4 22 rfl rfl
theorem dksX1_contradictions_6 : cX1_contradictions.data.toList.drop 133 = dktX1_contradictions_6 := dk_seg dksX1_contradictions_5 23 rfl rfl
theorem dX1_contradictions_0 : decode cX1_contradictions 0 = .ok (.aload_n 0, 1) := dk_42 (dk_at dksX1_contradictions_0 0 rfl rfl)
theorem dX1_contradictions_1 : decode cX1_contradictions 1 = .ok (.invokevirtual 162, 3) := dk_182 0 162 (dk_at dksX1_contradictions_0 1 rfl rfl)
theorem dX1_contradictions_4 : decode cX1_contradictions 4 = .ok (.getfield 396, 3) := dk_180 1 140 (dk_at dksX1_contradictions_0 4 rfl rfl)
theorem dX1_contradictions_7 : decode cX1_contradictions 7 = .ok (.aload_n 0, 1) := dk_42 (dk_at dksX1_contradictions_0 7 rfl rfl)
theorem dX1_contradictions_8 : decode cX1_contradictions 8 = .ok (.invokevirtual 162, 3) := dk_182 0 162 (dk_at dksX1_contradictions_0 8 rfl rfl)
theorem dX1_contradictions_11 : decode cX1_contradictions 11 = .ok (.getfield 186, 3) := dk_180 0 186 (dk_at dksX1_contradictions_0 11 rfl rfl)
theorem dX1_contradictions_14 : decode cX1_contradictions 14 = .ok (.isub, 1) := dk_100 (dk_at dksX1_contradictions_0 14 rfl rfl)
theorem dX1_contradictions_15 : decode cX1_contradictions 15 = .ok (.aload_n 0, 1) := dk_42 (dk_at dksX1_contradictions_0 15 rfl rfl)
theorem dX1_contradictions_16 : decode cX1_contradictions 16 = .ok (.invokevirtual 162, 3) := dk_182 0 162 (dk_at dksX1_contradictions_0 16 rfl rfl)
theorem dX1_contradictions_19 : decode cX1_contradictions 19 = .ok (.getfield 399, 3) := dk_180 1 143 (dk_at dksX1_contradictions_0 19 rfl rfl)
theorem dX1_contradictions_22 : decode cX1_contradictions 22 = .ok (.isub, 1) := dk_100 (dk_at dksX1_contradictions_0 22 rfl rfl)
theorem dX1_contradictions_23 : decode cX1_contradictions 23 = .ok (.invokestatic 263, 3) := dk_184 1 7 (dk_at dksX1_contradictions_1 0 rfl rfl)
theorem dX1_contradictions_26 : decode cX1_contradictions 26 = .ok (.aload_n 0, 1) := dk_42 (dk_at dksX1_contradictions_1 3 rfl rfl)
theorem dX1_contradictions_27 : decode cX1_contradictions 27 = .ok (.invokevirtual 162, 3) := dk_182 0 162 (dk_at dksX1_contradictions_1 4 rfl rfl)
theorem dX1_contradictions_30 : decode cX1_contradictions 30 = .ok (.getfield 402, 3) := dk_180 1 146 (dk_at dksX1_contradictions_1 7 rfl rfl)
theorem dX1_contradictions_33 : decode cX1_contradictions 33 = .ok (.aload_n 0, 1) := dk_42 (dk_at dksX1_contradictions_1 10 rfl rfl)
theorem dX1_contradictions_34 : decode cX1_contradictions 34 = .ok (.invokevirtual 162, 3) := dk_182 0 162 (dk_at dksX1_contradictions_1 11 rfl rfl)
theorem dX1_contradictions_37 : decode cX1_contradictions 37 = .ok (.getfield 189, 3) := dk_180 0 189 (dk_at dksX1_contradictions_1 14 rfl rfl)
theorem dX1_contradictions_40 : decode cX1_contradictions 40 = .ok (.isub, 1) := dk_100 (dk_at dksX1_contradictions_1 17 rfl rfl)
theorem dX1_contradictions_41 : decode cX1_contradictions 41 = .ok (.aload_n 0, 1) := dk_42 (dk_at dksX1_contradictions_1 18 rfl rfl)
theorem dX1_contradictions_42 : decode cX1_contradictions 42 = .ok (.invokevirtual 162, 3) := dk_182 0 162 (dk_at dksX1_contradictions_1 19 rfl rfl)
theorem dX1_contradictions_45 : decode cX1_contradictions 45 = .ok (.getfield 405, 3) := dk_180 1 149 (dk_at dksX1_contradictions_2 0 rfl rfl)
theorem dX1_contradictions_48 : decode cX1_contradictions 48 = .ok (.isub, 1) := dk_100 (dk_at dksX1_contradictions_2 3 rfl rfl)
theorem dX1_contradictions_49 : decode cX1_contradictions 49 = .ok (.invokestatic 263, 3) := dk_184 1 7 (dk_at dksX1_contradictions_2 4 rfl rfl)
theorem dX1_contradictions_52 : decode cX1_contradictions 52 = .ok (.iadd, 1) := dk_96 (dk_at dksX1_contradictions_2 7 rfl rfl)
theorem dX1_contradictions_53 : decode cX1_contradictions 53 = .ok (.istore_n 1, 1) := dk_60 (dk_at dksX1_contradictions_2 8 rfl rfl)
theorem dX1_contradictions_54 : decode cX1_contradictions 54 = .ok (.aload_n 0, 1) := dk_42 (dk_at dksX1_contradictions_2 9 rfl rfl)
theorem dX1_contradictions_55 : decode cX1_contradictions 55 = .ok (.invokevirtual 162, 3) := dk_182 0 162 (dk_at dksX1_contradictions_2 10 rfl rfl)
theorem dX1_contradictions_58 : decode cX1_contradictions 58 = .ok (.getfield 195, 3) := dk_180 0 195 (dk_at dksX1_contradictions_2 13 rfl rfl)
theorem dX1_contradictions_61 : decode cX1_contradictions 61 = .ok (.invokevirtual 309, 3) := dk_182 1 53 (dk_at dksX1_contradictions_2 16 rfl rfl)
theorem dX1_contradictions_64 : decode cX1_contradictions 64 = .ok (.astore_n 2, 1) := dk_77 (dk_at dksX1_contradictions_2 19 rfl rfl)
theorem dX1_contradictions_65 : decode cX1_contradictions 65 = .ok (.aload_n 2, 1) := dk_44 (dk_at dksX1_contradictions_2 20 rfl rfl)
theorem dX1_contradictions_66 : decode cX1_contradictions 66 = .ok (.invokeinterface 284 1, 5) := by decide +kernel
theorem dX1_contradictions_71 : decode cX1_contradictions 71 = .ok (.ifCond .eq 78, 3) := dk_153 0 78 (dk_at dksX1_contradictions_3 5 rfl rfl)
theorem dX1_contradictions_74 : decode cX1_contradictions 74 = .ok (.aload_n 2, 1) := dk_44 (dk_at dksX1_contradictions_3 8 rfl rfl)
theorem dX1_contradictions_75 : decode cX1_contradictions 75 = .ok (.invokeinterface 290 1, 5) := by decide +kernel
theorem dX1_contradictions_80 : decode cX1_contradictions 80 = .ok (.checkcast 211, 3) := dk_192 0 211 (dk_at dksX1_contradictions_3 14 rfl rfl)
theorem dX1_contradictions_83 : decode cX1_contradictions 83 = .ok (.astore_n 3, 1) := dk_78 (dk_at dksX1_contradictions_3 17 rfl rfl)
theorem dX1_contradictions_84 : decode cX1_contradictions 84 = .ok (.aload_n 3, 1) := dk_45 (dk_at dksX1_contradictions_3 18 rfl rfl)
theorem dX1_contradictions_85 : decode cX1_contradictions 85 = .ok (.invokevirtual 349, 3) := dk_182 1 93 (dk_at dksX1_contradictions_3 19 rfl rfl)
theorem dX1_contradictions_88 : decode cX1_contradictions 88 = .ok (.ifCond .ne 6, 3) := dk_154 0 6 (dk_at dksX1_contradictions_4 0 rfl rfl)
theorem dX1_contradictions_91 : decode cX1_contradictions 91 = .ok (.goto (-26), 3) := dk_167 255 230 (dk_at dksX1_contradictions_4 3 rfl rfl)
theorem dX1_contradictions_94 : decode cX1_contradictions 94 = .ok (.iconst 0, 1) := dk_3 (dk_at dksX1_contradictions_4 6 rfl rfl)
theorem dX1_contradictions_95 : decode cX1_contradictions 95 = .ok (.istore 4, 2) := dk_54 4 (dk_at dksX1_contradictions_4 7 rfl rfl)
theorem dX1_contradictions_97 : decode cX1_contradictions 97 = .ok (.iload 4, 2) := dk_21 4 (dk_at dksX1_contradictions_4 9 rfl rfl)
theorem dX1_contradictions_99 : decode cX1_contradictions 99 = .ok (.iconst 4, 1) := dk_7 (dk_at dksX1_contradictions_4 11 rfl rfl)
theorem dX1_contradictions_100 : decode cX1_contradictions 100 = .ok (.if_icmp .ge 31, 3) := dk_162 0 31 (dk_at dksX1_contradictions_4 12 rfl rfl)
theorem dX1_contradictions_103 : decode cX1_contradictions 103 = .ok (.aload_n 3, 1) := dk_45 (dk_at dksX1_contradictions_4 15 rfl rfl)
theorem dX1_contradictions_104 : decode cX1_contradictions 104 = .ok (.getfield 358, 3) := dk_180 1 102 (dk_at dksX1_contradictions_4 16 rfl rfl)
theorem dX1_contradictions_107 : decode cX1_contradictions 107 = .ok (.iload 4, 2) := dk_21 4 (dk_at dksX1_contradictions_4 19 rfl rfl)
theorem dX1_contradictions_109 : decode cX1_contradictions 109 = .ok (.iaload, 1) := dk_46 (dk_at dksX1_contradictions_4 21 rfl rfl)
theorem dX1_contradictions_110 : decode cX1_contradictions 110 = .ok (.invokestatic 263, 3) := dk_184 1 7 (dk_at dksX1_contradictions_5 0 rfl rfl)
theorem dX1_contradictions_113 : decode cX1_contradictions 113 = .ok (.iconst 2, 1) := dk_5 (dk_at dksX1_contradictions_5 3 rfl rfl)
theorem dX1_contradictions_114 : decode cX1_contradictions 114 = .ok (.aload_n 3, 1) := dk_45 (dk_at dksX1_contradictions_5 4 rfl rfl)
theorem dX1_contradictions_115 : decode cX1_contradictions 115 = .ok (.getfield 355, 3) := dk_180 1 99 (dk_at dksX1_contradictions_5 5 rfl rfl)
theorem dX1_contradictions_118 : decode cX1_contradictions 118 = .ok (.imul, 1) := dk_104 (dk_at dksX1_contradictions_5 8 rfl rfl)
theorem dX1_contradictions_119 : decode cX1_contradictions 119 = .ok (.if_icmp .le 6, 3) := dk_164 0 6 (dk_at dksX1_contradictions_5 9 rfl rfl)
theorem dX1_contradictions_122 : decode cX1_contradictions 122 = .ok (.iinc 1 1, 3) := dk_132 1 1 (dk_at dksX1_contradictions_5 12 rfl rfl)
theorem dX1_contradictions_125 : decode cX1_contradictions 125 = .ok (.iinc 4 1, 3) := dk_132 4 1 (dk_at dksX1_contradictions_5 15 rfl rfl)
theorem dX1_contradictions_128 : decode cX1_contradictions 128 = .ok (.goto (-31), 3) := dk_167 255 225 (dk_at dksX1_contradictions_5 18 rfl rfl)
theorem dX1_contradictions_131 : decode cX1_contradictions 131 = .ok (.aload_n 0, 1) := dk_42 (dk_at dksX1_contradictions_5 21 rfl rfl)
theorem dX1_contradictions_132 : decode cX1_contradictions 132 = .ok (.aload_n 3, 1) := dk_45 (dk_at dksX1_contradictions_5 22 rfl rfl)
theorem dX1_contradictions_133 : decode cX1_contradictions 133 = .ok (.invokevirtual 408, 3) := dk_182 1 152 (dk_at dksX1_contradictions_6 0 rfl rfl)
theorem dX1_contradictions_136 : decode cX1_contradictions 136 = .ok (.aload_n 3, 1) := dk_45 (dk_at dksX1_contradictions_6 3 rfl rfl)
theorem dX1_contradictions_137 : decode cX1_contradictions 137 = .ok (.getfield 355, 3) := dk_180 1 99 (dk_at dksX1_contradictions_6 4 rfl rfl)
theorem dX1_contradictions_140 : decode cX1_contradictions 140 = .ok (.if_icmp .eq 6, 3) := dk_159 0 6 (dk_at dksX1_contradictions_6 7 rfl rfl)
theorem dX1_contradictions_143 : decode cX1_contradictions 143 = .ok (.iinc 1 1, 3) := dk_132 1 1 (dk_at dksX1_contradictions_6 10 rfl rfl)
theorem dX1_contradictions_146 : decode cX1_contradictions 146 = .ok (.goto (-81), 3) := dk_167 255 175 (dk_at dksX1_contradictions_6 13 rfl rfl)
theorem dX1_contradictions_149 : decode cX1_contradictions 149 = .ok (.iload_n 1, 1) := dk_27 (dk_at dksX1_contradictions_6 16 rfl rfl)
theorem dX1_contradictions_150 : decode cX1_contradictions 150 = .ok (.ireturn, 1) := dk_172 (dk_at dksX1_contradictions_6 17 rfl rfl)
abbrev iX1_contradictions : xM := (yX1_contradictions, cX1_contradictions, 5, (some .int), [])
theorem mX1_contradictions : xOkM iX1_contradictions := ⟨by decide +kernel, by decide, q3132, q130⟩
abbrev cX1_referencesOf : ByteArray := prog_1_method_60_code
def yX1_referencesOf : MethodName := ⟨RX1, "referencesOf", "(LFiddleRow$Fiddler;)I"⟩
def dkwX1_referencesOf_1 : List UInt8 := [182, 0, 207, 192, 0, 211, 180, 1, 96, 62, 167, 255, 231, 28, 172]
abbrev dktX1_referencesOf_1 : List UInt8 := dkwX1_referencesOf_1 ++ []
def dkwX1_referencesOf_0 : List UInt8 := [4, 61, 43, 180, 1, 96, 62, 29, 155, 0, 27, 132, 2, 1, 42, 182, 0, 162, 180, 0, 195, 29]
abbrev dktX1_referencesOf_0 : List UInt8 := dkwX1_referencesOf_0 ++ dktX1_referencesOf_1
theorem dksX1_referencesOf_0 : cX1_referencesOf.data.toList.drop 0 = dktX1_referencesOf_0 := by decide +kernel
theorem dksX1_referencesOf_1 : cX1_referencesOf.data.toList.drop 22 = dktX1_referencesOf_1 := dk_seg dksX1_referencesOf_0 22 rfl rfl
theorem dX1_referencesOf_0 : decode cX1_referencesOf 0 = .ok (.iconst 1, 1) := dk_4 (dk_at dksX1_referencesOf_0 0 rfl rfl)
theorem dX1_referencesOf_1 : decode cX1_referencesOf 1 = .ok (.istore_n 2, 1) := dk_61 (dk_at dksX1_referencesOf_0 1 rfl rfl)
theorem dX1_referencesOf_2 : decode cX1_referencesOf 2 = .ok (.aload_n 1, 1) := dk_43 (dk_at dksX1_referencesOf_0 2 rfl rfl)
theorem dX1_referencesOf_3 : decode cX1_referencesOf 3 = .ok (.getfield 352, 3) := dk_180 1 96 (dk_at dksX1_referencesOf_0 3 rfl rfl)
theorem dX1_referencesOf_6 : decode cX1_referencesOf 6 = .ok (.istore_n 3, 1) := dk_62 (dk_at dksX1_referencesOf_0 6 rfl rfl)
theorem dX1_referencesOf_7 : decode cX1_referencesOf 7 = .ok (.iload_n 3, 1) := dk_29 (dk_at dksX1_referencesOf_0 7 rfl rfl)
theorem dX1_referencesOf_8 : decode cX1_referencesOf 8 = .ok (.ifCond .lt 27, 3) := dk_155 0 27 (dk_at dksX1_referencesOf_0 8 rfl rfl)
theorem dX1_referencesOf_11 : decode cX1_referencesOf 11 = .ok (.iinc 2 1, 3) := dk_132 2 1 (dk_at dksX1_referencesOf_0 11 rfl rfl)
theorem dX1_referencesOf_14 : decode cX1_referencesOf 14 = .ok (.aload_n 0, 1) := dk_42 (dk_at dksX1_referencesOf_0 14 rfl rfl)
theorem dX1_referencesOf_15 : decode cX1_referencesOf 15 = .ok (.invokevirtual 162, 3) := dk_182 0 162 (dk_at dksX1_referencesOf_0 15 rfl rfl)
theorem dX1_referencesOf_18 : decode cX1_referencesOf 18 = .ok (.getfield 195, 3) := dk_180 0 195 (dk_at dksX1_referencesOf_0 18 rfl rfl)
theorem dX1_referencesOf_21 : decode cX1_referencesOf 21 = .ok (.iload_n 3, 1) := dk_29 (dk_at dksX1_referencesOf_0 21 rfl rfl)
theorem dX1_referencesOf_22 : decode cX1_referencesOf 22 = .ok (.invokevirtual 207, 3) := dk_182 0 207 (dk_at dksX1_referencesOf_1 0 rfl rfl)
theorem dX1_referencesOf_25 : decode cX1_referencesOf 25 = .ok (.checkcast 211, 3) := dk_192 0 211 (dk_at dksX1_referencesOf_1 3 rfl rfl)
theorem dX1_referencesOf_28 : decode cX1_referencesOf 28 = .ok (.getfield 352, 3) := dk_180 1 96 (dk_at dksX1_referencesOf_1 6 rfl rfl)
theorem dX1_referencesOf_31 : decode cX1_referencesOf 31 = .ok (.istore_n 3, 1) := dk_62 (dk_at dksX1_referencesOf_1 9 rfl rfl)
theorem dX1_referencesOf_32 : decode cX1_referencesOf 32 = .ok (.goto (-25), 3) := dk_167 255 231 (dk_at dksX1_referencesOf_1 10 rfl rfl)
theorem dX1_referencesOf_35 : decode cX1_referencesOf 35 = .ok (.iload_n 2, 1) := dk_28 (dk_at dksX1_referencesOf_1 13 rfl rfl)
theorem dX1_referencesOf_36 : decode cX1_referencesOf 36 = .ok (.ireturn, 1) := dk_172 (dk_at dksX1_referencesOf_1 14 rfl rfl)
abbrev iX1_referencesOf : xM := (yX1_referencesOf, cX1_referencesOf, 4, (some .int), [])
theorem mX1_referencesOf : xOkM iX1_referencesOf := ⟨by decide +kernel, by decide, q3136, q130⟩
abbrev cX1_tuneRow : ByteArray := prog_1_method_68_code
def yX1_tuneRow : MethodName := ⟨RX1, "tuneRow", "()I"⟩
def dkwX1_tuneRow_0 : List UInt8 := [42, 182, 0, 162, 182, 0, 165, 76, 42, 43, 43, 182, 1, 119, 182, 1, 167, 172]
abbrev dktX1_tuneRow_0 : List UInt8 := dkwX1_tuneRow_0 ++ []
theorem dksX1_tuneRow_0 : cX1_tuneRow.data.toList.drop 0 = dktX1_tuneRow_0 := by decide +kernel
theorem dX1_tuneRow_0 : decode cX1_tuneRow 0 = .ok (.aload_n 0, 1) := dk_42 (dk_at dksX1_tuneRow_0 0 rfl rfl)
theorem dX1_tuneRow_1 : decode cX1_tuneRow 1 = .ok (.invokevirtual 162, 3) := dk_182 0 162 (dk_at dksX1_tuneRow_0 1 rfl rfl)
theorem dX1_tuneRow_4 : decode cX1_tuneRow 4 = .ok (.invokevirtual 165, 3) := dk_182 0 165 (dk_at dksX1_tuneRow_0 4 rfl rfl)
theorem dX1_tuneRow_7 : decode cX1_tuneRow 7 = .ok (.astore_n 1, 1) := dk_76 (dk_at dksX1_tuneRow_0 7 rfl rfl)
theorem dX1_tuneRow_8 : decode cX1_tuneRow 8 = .ok (.aload_n 0, 1) := dk_42 (dk_at dksX1_tuneRow_0 8 rfl rfl)
theorem dX1_tuneRow_9 : decode cX1_tuneRow 9 = .ok (.aload_n 1, 1) := dk_43 (dk_at dksX1_tuneRow_0 9 rfl rfl)
theorem dX1_tuneRow_10 : decode cX1_tuneRow 10 = .ok (.aload_n 1, 1) := dk_43 (dk_at dksX1_tuneRow_0 10 rfl rfl)
theorem dX1_tuneRow_11 : decode cX1_tuneRow 11 = .ok (.invokevirtual 375, 3) := dk_182 1 119 (dk_at dksX1_tuneRow_0 11 rfl rfl)
theorem dX1_tuneRow_14 : decode cX1_tuneRow 14 = .ok (.invokevirtual 423, 3) := dk_182 1 167 (dk_at dksX1_tuneRow_0 14 rfl rfl)
theorem dX1_tuneRow_17 : decode cX1_tuneRow 17 = .ok (.ireturn, 1) := dk_172 (dk_at dksX1_tuneRow_0 17 rfl rfl)
abbrev iX1_tuneRow : xM := (yX1_tuneRow, cX1_tuneRow, 2, (some .int), [])
theorem mX1_tuneRow : xOkM iX1_tuneRow := ⟨by decide +kernel, by decide, q3140, q130⟩
abbrev cX1_keep : ByteArray := prog_1_method_67_code
def yX1_keep : MethodName := ⟨RX1, "keep", "(LFiddleRow$Hall;I)I"⟩
def dkwX1_keep_0 : List UInt8 := [42, 180, 0, 46, 43, 182, 0, 174, 28, 172]
abbrev dktX1_keep_0 : List UInt8 := dkwX1_keep_0 ++ []
theorem dksX1_keep_0 : cX1_keep.data.toList.drop 0 = dktX1_keep_0 := by decide +kernel
theorem dX1_keep_0 : decode cX1_keep 0 = .ok (.aload_n 0, 1) := dk_42 (dk_at dksX1_keep_0 0 rfl rfl)
theorem dX1_keep_1 : decode cX1_keep 1 = .ok (.getfield 46, 3) := dk_180 0 46 (dk_at dksX1_keep_0 1 rfl rfl)
theorem dX1_keep_4 : decode cX1_keep 4 = .ok (.aload_n 1, 1) := dk_43 (dk_at dksX1_keep_0 4 rfl rfl)
theorem dX1_keep_5 : decode cX1_keep 5 = .ok (.invokevirtual 174, 3) := dk_182 0 174 (dk_at dksX1_keep_0 5 rfl rfl)
theorem dX1_keep_8 : decode cX1_keep 8 = .ok (.iload_n 2, 1) := dk_28 (dk_at dksX1_keep_0 8 rfl rfl)
theorem dX1_keep_9 : decode cX1_keep 9 = .ok (.ireturn, 1) := dk_172 (dk_at dksX1_keep_0 9 rfl rfl)
abbrev iX1_keep : xM := (yX1_keep, cX1_keep, 3, (some .int), [])
theorem mX1_keep : xOkM iX1_keep := ⟨by decide +kernel, by decide, q3144, q130⟩
abbrev cX1_writeRow : ByteArray := prog_1_method_77_code
def yX1_writeRow : MethodName := ⟨RX1, "writeRow", "()I"⟩
def dkwX1_writeRow_4 : List UInt8 := [42, 180, 0, 77, 182, 1, 198, 172]
abbrev dktX1_writeRow_4 : List UInt8 := dkwX1_writeRow_4 ++ []
def dkwX1_writeRow_3 : List UInt8 := [182, 1, 199, 87, 44, 182, 1, 93, 153, 0, 13, 42, 180, 0, 77, 16, 42, 182, 0, 103, 87, 167, 255, 188]
abbrev dktX1_writeRow_3 : List UInt8 := dkwX1_writeRow_3 ++ dktX1_writeRow_4
def dkwX1_writeRow_2 : List UInt8 := [182, 1, 198, 158, 0, 13, 42, 180, 0, 77, 16, 32, 182, 0, 103, 87, 42, 180, 0, 77, 44, 180, 0, 231]
abbrev dktX1_writeRow_2 : List UInt8 := dkwX1_writeRow_2 ++ dktX1_writeRow_3
def dkwX1_writeRow_1 : List UInt8 := [185, 1, 28, 1, 0, 153, 0, 65, 43, 185, 1, 34, 1, 0, 192, 0, 211, 77, 42, 180, 0, 77]
abbrev dktX1_writeRow_1 : List UInt8 := dkwX1_writeRow_1 ++ dktX1_writeRow_2
def dkwX1_writeRow_0 : List UInt8 := [42, 180, 0, 77, 3, 182, 1, 194, 42, 182, 0, 162, 180, 0, 204, 182, 1, 53, 76, 43]
abbrev dktX1_writeRow_0 : List UInt8 := dkwX1_writeRow_0 ++ dktX1_writeRow_1
theorem dksX1_writeRow_0 : cX1_writeRow.data.toList.drop 0 = dktX1_writeRow_0 := by decide +kernel
theorem dksX1_writeRow_1 : cX1_writeRow.data.toList.drop 20 = dktX1_writeRow_1 := dk_seg dksX1_writeRow_0 20 rfl rfl
theorem dksX1_writeRow_2 : cX1_writeRow.data.toList.drop 42 = dktX1_writeRow_2 := dk_seg dksX1_writeRow_1 22 rfl rfl
theorem dksX1_writeRow_3 : cX1_writeRow.data.toList.drop 66 = dktX1_writeRow_3 := dk_seg dksX1_writeRow_2 24 rfl rfl
theorem dksX1_writeRow_4 : cX1_writeRow.data.toList.drop 90 = dktX1_writeRow_4 := dk_seg dksX1_writeRow_3 24 rfl rfl
theorem dX1_writeRow_0 : decode cX1_writeRow 0 = .ok (.aload_n 0, 1) := dk_42 (dk_at dksX1_writeRow_0 0 rfl rfl)
theorem dX1_writeRow_1 : decode cX1_writeRow 1 = .ok (.getfield 77, 3) := dk_180 0 77 (dk_at dksX1_writeRow_0 1 rfl rfl)
theorem dX1_writeRow_4 : decode cX1_writeRow 4 = .ok (.iconst 0, 1) := dk_3 (dk_at dksX1_writeRow_0 4 rfl rfl)
theorem dX1_writeRow_5 : decode cX1_writeRow 5 = .ok (.invokevirtual 450, 3) := dk_182 1 194 (dk_at dksX1_writeRow_0 5 rfl rfl)
theorem dX1_writeRow_8 : decode cX1_writeRow 8 = .ok (.aload_n 0, 1) := dk_42 (dk_at dksX1_writeRow_0 8 rfl rfl)
theorem dX1_writeRow_9 : decode cX1_writeRow 9 = .ok (.invokevirtual 162, 3) := dk_182 0 162 (dk_at dksX1_writeRow_0 9 rfl rfl)
theorem dX1_writeRow_12 : decode cX1_writeRow 12 = .ok (.getfield 204, 3) := dk_180 0 204 (dk_at dksX1_writeRow_0 12 rfl rfl)
theorem dX1_writeRow_15 : decode cX1_writeRow 15 = .ok (.invokevirtual 309, 3) := dk_182 1 53 (dk_at dksX1_writeRow_0 15 rfl rfl)
theorem dX1_writeRow_18 : decode cX1_writeRow 18 = .ok (.astore_n 1, 1) := dk_76 (dk_at dksX1_writeRow_0 18 rfl rfl)
theorem dX1_writeRow_19 : decode cX1_writeRow 19 = .ok (.aload_n 1, 1) := dk_43 (dk_at dksX1_writeRow_0 19 rfl rfl)
theorem dX1_writeRow_20 : decode cX1_writeRow 20 = .ok (.invokeinterface 284 1, 5) := by decide +kernel
theorem dX1_writeRow_25 : decode cX1_writeRow 25 = .ok (.ifCond .eq 65, 3) := dk_153 0 65 (dk_at dksX1_writeRow_1 5 rfl rfl)
theorem dX1_writeRow_28 : decode cX1_writeRow 28 = .ok (.aload_n 1, 1) := dk_43 (dk_at dksX1_writeRow_1 8 rfl rfl)
theorem dX1_writeRow_29 : decode cX1_writeRow 29 = .ok (.invokeinterface 290 1, 5) := by decide +kernel
theorem dX1_writeRow_34 : decode cX1_writeRow 34 = .ok (.checkcast 211, 3) := dk_192 0 211 (dk_at dksX1_writeRow_1 14 rfl rfl)
theorem dX1_writeRow_37 : decode cX1_writeRow 37 = .ok (.astore_n 2, 1) := dk_77 (dk_at dksX1_writeRow_1 17 rfl rfl)
theorem dX1_writeRow_38 : decode cX1_writeRow 38 = .ok (.aload_n 0, 1) := dk_42 (dk_at dksX1_writeRow_1 18 rfl rfl)
theorem dX1_writeRow_39 : decode cX1_writeRow 39 = .ok (.getfield 77, 3) := dk_180 0 77 (dk_at dksX1_writeRow_1 19 rfl rfl)
theorem dX1_writeRow_42 : decode cX1_writeRow 42 = .ok (.invokevirtual 454, 3) := dk_182 1 198 (dk_at dksX1_writeRow_2 0 rfl rfl)
theorem dX1_writeRow_45 : decode cX1_writeRow 45 = .ok (.ifCond .le 13, 3) := dk_158 0 13 (dk_at dksX1_writeRow_2 3 rfl rfl)
theorem dX1_writeRow_48 : decode cX1_writeRow 48 = .ok (.aload_n 0, 1) := dk_42 (dk_at dksX1_writeRow_2 6 rfl rfl)
theorem dX1_writeRow_49 : decode cX1_writeRow 49 = .ok (.getfield 77, 3) := dk_180 0 77 (dk_at dksX1_writeRow_2 7 rfl rfl)
theorem dX1_writeRow_52 : decode cX1_writeRow 52 = .ok (.bipush 32, 2) := dk_16 32 (dk_at dksX1_writeRow_2 10 rfl rfl)
theorem dX1_writeRow_54 : decode cX1_writeRow 54 = .ok (.invokevirtual 103, 3) := dk_182 0 103 (dk_at dksX1_writeRow_2 12 rfl rfl)
theorem dX1_writeRow_57 : decode cX1_writeRow 57 = .ok (.pop, 1) := dk_87 (dk_at dksX1_writeRow_2 15 rfl rfl)
theorem dX1_writeRow_58 : decode cX1_writeRow 58 = .ok (.aload_n 0, 1) := dk_42 (dk_at dksX1_writeRow_2 16 rfl rfl)
theorem dX1_writeRow_59 : decode cX1_writeRow 59 = .ok (.getfield 77, 3) := dk_180 0 77 (dk_at dksX1_writeRow_2 17 rfl rfl)
theorem dX1_writeRow_62 : decode cX1_writeRow 62 = .ok (.aload_n 2, 1) := dk_44 (dk_at dksX1_writeRow_2 20 rfl rfl)
theorem dX1_writeRow_63 : decode cX1_writeRow 63 = .ok (.getfield 231, 3) := dk_180 0 231 (dk_at dksX1_writeRow_2 21 rfl rfl)
theorem dX1_writeRow_66 : decode cX1_writeRow 66 = .ok (.invokevirtual 455, 3) := dk_182 1 199 (dk_at dksX1_writeRow_3 0 rfl rfl)
theorem dX1_writeRow_69 : decode cX1_writeRow 69 = .ok (.pop, 1) := dk_87 (dk_at dksX1_writeRow_3 3 rfl rfl)
theorem dX1_writeRow_70 : decode cX1_writeRow 70 = .ok (.aload_n 2, 1) := dk_44 (dk_at dksX1_writeRow_3 4 rfl rfl)
theorem dX1_writeRow_71 : decode cX1_writeRow 71 = .ok (.invokevirtual 349, 3) := dk_182 1 93 (dk_at dksX1_writeRow_3 5 rfl rfl)
theorem dX1_writeRow_74 : decode cX1_writeRow 74 = .ok (.ifCond .eq 13, 3) := dk_153 0 13 (dk_at dksX1_writeRow_3 8 rfl rfl)
theorem dX1_writeRow_77 : decode cX1_writeRow 77 = .ok (.aload_n 0, 1) := dk_42 (dk_at dksX1_writeRow_3 11 rfl rfl)
theorem dX1_writeRow_78 : decode cX1_writeRow 78 = .ok (.getfield 77, 3) := dk_180 0 77 (dk_at dksX1_writeRow_3 12 rfl rfl)
theorem dX1_writeRow_81 : decode cX1_writeRow 81 = .ok (.bipush 42, 2) := dk_16 42 (dk_at dksX1_writeRow_3 15 rfl rfl)
theorem dX1_writeRow_83 : decode cX1_writeRow 83 = .ok (.invokevirtual 103, 3) := dk_182 0 103 (dk_at dksX1_writeRow_3 17 rfl rfl)
theorem dX1_writeRow_86 : decode cX1_writeRow 86 = .ok (.pop, 1) := dk_87 (dk_at dksX1_writeRow_3 20 rfl rfl)
theorem dX1_writeRow_87 : decode cX1_writeRow 87 = .ok (.goto (-68), 3) := dk_167 255 188 (dk_at dksX1_writeRow_3 21 rfl rfl)
theorem dX1_writeRow_90 : decode cX1_writeRow 90 = .ok (.aload_n 0, 1) := dk_42 (dk_at dksX1_writeRow_4 0 rfl rfl)
theorem dX1_writeRow_91 : decode cX1_writeRow 91 = .ok (.getfield 77, 3) := dk_180 0 77 (dk_at dksX1_writeRow_4 1 rfl rfl)
theorem dX1_writeRow_94 : decode cX1_writeRow 94 = .ok (.invokevirtual 454, 3) := dk_182 1 198 (dk_at dksX1_writeRow_4 4 rfl rfl)
theorem dX1_writeRow_97 : decode cX1_writeRow 97 = .ok (.ireturn, 1) := dk_172 (dk_at dksX1_writeRow_4 7 rfl rfl)
abbrev iX1_writeRow : xM := (yX1_writeRow, cX1_writeRow, 3, (some .int), [])
theorem mX1_writeRow : xOkM iX1_writeRow := ⟨by decide +kernel, by decide, q3148, q130⟩
abbrev cX1_outputByte : ByteArray := prog_1_method_79_code
def yX1_outputByte : MethodName := ⟨RX1, "outputByte", "(I)I"⟩
def dkwX1_outputByte_1 : List UInt8 := [182, 1, 208, 167, 0, 4, 2, 172]
abbrev dktX1_outputByte_1 : List UInt8 := dkwX1_outputByte_1 ++ []
def dkwX1_outputByte_0 : List UInt8 := [27, 3, 42, 180, 0, 77, 182, 1, 198, 4, 100, 184, 0, 96, 153, 0, 14, 42, 180, 0, 77, 27]
abbrev dktX1_outputByte_0 : List UInt8 := dkwX1_outputByte_0 ++ dktX1_outputByte_1
theorem dksX1_outputByte_0 : cX1_outputByte.data.toList.drop 0 = dktX1_outputByte_0 := by decide +kernel
theorem dksX1_outputByte_1 : cX1_outputByte.data.toList.drop 22 = dktX1_outputByte_1 := dk_seg dksX1_outputByte_0 22 rfl rfl
theorem dX1_outputByte_0 : decode cX1_outputByte 0 = .ok (.iload_n 1, 1) := dk_27 (dk_at dksX1_outputByte_0 0 rfl rfl)
theorem dX1_outputByte_1 : decode cX1_outputByte 1 = .ok (.iconst 0, 1) := dk_3 (dk_at dksX1_outputByte_0 1 rfl rfl)
theorem dX1_outputByte_2 : decode cX1_outputByte 2 = .ok (.aload_n 0, 1) := dk_42 (dk_at dksX1_outputByte_0 2 rfl rfl)
theorem dX1_outputByte_3 : decode cX1_outputByte 3 = .ok (.getfield 77, 3) := dk_180 0 77 (dk_at dksX1_outputByte_0 3 rfl rfl)
theorem dX1_outputByte_6 : decode cX1_outputByte 6 = .ok (.invokevirtual 454, 3) := dk_182 1 198 (dk_at dksX1_outputByte_0 6 rfl rfl)
theorem dX1_outputByte_9 : decode cX1_outputByte 9 = .ok (.iconst 1, 1) := dk_4 (dk_at dksX1_outputByte_0 9 rfl rfl)
theorem dX1_outputByte_10 : decode cX1_outputByte 10 = .ok (.isub, 1) := dk_100 (dk_at dksX1_outputByte_0 10 rfl rfl)
theorem dX1_outputByte_11 : decode cX1_outputByte 11 = .ok (.invokestatic 96, 3) := dk_184 0 96 (dk_at dksX1_outputByte_0 11 rfl rfl)
theorem dX1_outputByte_14 : decode cX1_outputByte 14 = .ok (.ifCond .eq 14, 3) := dk_153 0 14 (dk_at dksX1_outputByte_0 14 rfl rfl)
theorem dX1_outputByte_17 : decode cX1_outputByte 17 = .ok (.aload_n 0, 1) := dk_42 (dk_at dksX1_outputByte_0 17 rfl rfl)
theorem dX1_outputByte_18 : decode cX1_outputByte 18 = .ok (.getfield 77, 3) := dk_180 0 77 (dk_at dksX1_outputByte_0 18 rfl rfl)
theorem dX1_outputByte_21 : decode cX1_outputByte 21 = .ok (.iload_n 1, 1) := dk_27 (dk_at dksX1_outputByte_0 21 rfl rfl)
theorem dX1_outputByte_22 : decode cX1_outputByte 22 = .ok (.invokevirtual 464, 3) := dk_182 1 208 (dk_at dksX1_outputByte_1 0 rfl rfl)
theorem dX1_outputByte_25 : decode cX1_outputByte 25 = .ok (.goto 4, 3) := dk_167 0 4 (dk_at dksX1_outputByte_1 3 rfl rfl)
theorem dX1_outputByte_28 : decode cX1_outputByte 28 = .ok (.iconst (-1), 1) := dk_2 (dk_at dksX1_outputByte_1 6 rfl rfl)
theorem dX1_outputByte_29 : decode cX1_outputByte 29 = .ok (.ireturn, 1) := dk_172 (dk_at dksX1_outputByte_1 7 rfl rfl)
abbrev iX1_outputByte : xM := (yX1_outputByte, cX1_outputByte, 2, (some .int), [])
theorem mX1_outputByte : xOkM iX1_outputByte := ⟨by decide +kernel, by decide, q3206, q130⟩
abbrev cX1_undoCount : ByteArray := prog_1_method_80_code
def yX1_undoCount : MethodName := ⟨RX1, "undoCount", "()I"⟩
def dkwX1_undoCount_0 : List UInt8 := [42, 180, 0, 46, 180, 1, 209, 182, 1, 213, 172]
abbrev dktX1_undoCount_0 : List UInt8 := dkwX1_undoCount_0 ++ []
theorem dksX1_undoCount_0 : cX1_undoCount.data.toList.drop 0 = dktX1_undoCount_0 := by decide +kernel
theorem dX1_undoCount_0 : decode cX1_undoCount 0 = .ok (.aload_n 0, 1) := dk_42 (dk_at dksX1_undoCount_0 0 rfl rfl)
theorem dX1_undoCount_1 : decode cX1_undoCount 1 = .ok (.getfield 46, 3) := dk_180 0 46 (dk_at dksX1_undoCount_0 1 rfl rfl)
theorem dX1_undoCount_4 : decode cX1_undoCount 4 = .ok (.getfield 465, 3) := dk_180 1 209 (dk_at dksX1_undoCount_0 4 rfl rfl)
theorem dX1_undoCount_7 : decode cX1_undoCount 7 = .ok (.invokevirtual 469, 3) := dk_182 1 213 (dk_at dksX1_undoCount_0 7 rfl rfl)
theorem dX1_undoCount_10 : decode cX1_undoCount 10 = .ok (.ireturn, 1) := dk_172 (dk_at dksX1_undoCount_0 10 rfl rfl)
abbrev iX1_undoCount : xM := (yX1_undoCount, cX1_undoCount, 1, (some .int), [])
theorem mX1_undoCount : xOkM iX1_undoCount := ⟨by decide +kernel, by decide, q3211, q130⟩
abbrev cX1_append : ByteArray := prog_1_method_11_code
def yX1_append : MethodName := ⟨RX1, "append", "(IIIII)I"⟩
def dkwX1_append_3 : List UInt8 := [79, 182, 0, 92, 42, 180, 0, 81, 172]
abbrev dktX1_append_3 : List UInt8 := dkwX1_append_3 ++ []
def dkwX1_append_2 : List UInt8 := [8, 188, 10, 89, 3, 27, 79, 89, 4, 28, 79, 89, 5, 29, 79, 89, 6, 21, 4, 79, 89, 7, 21, 5]
abbrev dktX1_append_2 : List UInt8 := dkwX1_append_2 ++ dktX1_append_3
def dkwX1_append_1 : List UInt8 := [89, 7, 21, 5, 79, 184, 0, 84, 96, 17, 3, 32, 163, 0, 7, 4, 167, 0, 4, 3, 184, 0, 88, 42]
abbrev dktX1_append_1 : List UInt8 := dkwX1_append_1 ++ dktX1_append_2
def dkwX1_append_0 : List UInt8 := [42, 180, 0, 81, 8, 188, 10, 89, 3, 27, 79, 89, 4, 28, 79, 89, 5, 29, 79, 89, 6, 21, 4, 79]
abbrev dktX1_append_0 : List UInt8 := dkwX1_append_0 ++ dktX1_append_1
theorem dksX1_append_0 : cX1_append.data.toList.drop 0 = dktX1_append_0 := by decide +kernel
theorem dksX1_append_1 : cX1_append.data.toList.drop 24 = dktX1_append_1 := dk_seg dksX1_append_0 24 rfl rfl
theorem dksX1_append_2 : cX1_append.data.toList.drop 48 = dktX1_append_2 := dk_seg dksX1_append_1 24 rfl rfl
theorem dksX1_append_3 : cX1_append.data.toList.drop 72 = dktX1_append_3 := dk_seg dksX1_append_2 24 rfl rfl
theorem dX1_append_0 : decode cX1_append 0 = .ok (.aload_n 0, 1) := dk_42 (dk_at dksX1_append_0 0 rfl rfl)
theorem dX1_append_1 : decode cX1_append 1 = .ok (.getfield 81, 3) := dk_180 0 81 (dk_at dksX1_append_0 1 rfl rfl)
theorem dX1_append_4 : decode cX1_append 4 = .ok (.iconst 5, 1) := dk_8 (dk_at dksX1_append_0 4 rfl rfl)
theorem dX1_append_5 : decode cX1_append 5 = .ok (.newarray .int, 2) := dk_188_10 (dk_at dksX1_append_0 5 rfl rfl)
theorem dX1_append_7 : decode cX1_append 7 = .ok (.dup, 1) := dk_89 (dk_at dksX1_append_0 7 rfl rfl)
theorem dX1_append_8 : decode cX1_append 8 = .ok (.iconst 0, 1) := dk_3 (dk_at dksX1_append_0 8 rfl rfl)
theorem dX1_append_9 : decode cX1_append 9 = .ok (.iload_n 1, 1) := dk_27 (dk_at dksX1_append_0 9 rfl rfl)
theorem dX1_append_10 : decode cX1_append 10 = .ok (.iastore, 1) := dk_79 (dk_at dksX1_append_0 10 rfl rfl)
theorem dX1_append_11 : decode cX1_append 11 = .ok (.dup, 1) := dk_89 (dk_at dksX1_append_0 11 rfl rfl)
theorem dX1_append_12 : decode cX1_append 12 = .ok (.iconst 1, 1) := dk_4 (dk_at dksX1_append_0 12 rfl rfl)
theorem dX1_append_13 : decode cX1_append 13 = .ok (.iload_n 2, 1) := dk_28 (dk_at dksX1_append_0 13 rfl rfl)
theorem dX1_append_14 : decode cX1_append 14 = .ok (.iastore, 1) := dk_79 (dk_at dksX1_append_0 14 rfl rfl)
theorem dX1_append_15 : decode cX1_append 15 = .ok (.dup, 1) := dk_89 (dk_at dksX1_append_0 15 rfl rfl)
theorem dX1_append_16 : decode cX1_append 16 = .ok (.iconst 2, 1) := dk_5 (dk_at dksX1_append_0 16 rfl rfl)
theorem dX1_append_17 : decode cX1_append 17 = .ok (.iload_n 3, 1) := dk_29 (dk_at dksX1_append_0 17 rfl rfl)
theorem dX1_append_18 : decode cX1_append 18 = .ok (.iastore, 1) := dk_79 (dk_at dksX1_append_0 18 rfl rfl)
theorem dX1_append_19 : decode cX1_append 19 = .ok (.dup, 1) := dk_89 (dk_at dksX1_append_0 19 rfl rfl)
theorem dX1_append_20 : decode cX1_append 20 = .ok (.iconst 3, 1) := dk_6 (dk_at dksX1_append_0 20 rfl rfl)
theorem dX1_append_21 : decode cX1_append 21 = .ok (.iload 4, 2) := dk_21 4 (dk_at dksX1_append_0 21 rfl rfl)
theorem dX1_append_23 : decode cX1_append 23 = .ok (.iastore, 1) := dk_79 (dk_at dksX1_append_0 23 rfl rfl)
theorem dX1_append_24 : decode cX1_append 24 = .ok (.dup, 1) := dk_89 (dk_at dksX1_append_1 0 rfl rfl)
theorem dX1_append_25 : decode cX1_append 25 = .ok (.iconst 4, 1) := dk_7 (dk_at dksX1_append_1 1 rfl rfl)
theorem dX1_append_26 : decode cX1_append 26 = .ok (.iload 5, 2) := dk_21 5 (dk_at dksX1_append_1 2 rfl rfl)
theorem dX1_append_28 : decode cX1_append 28 = .ok (.iastore, 1) := dk_79 (dk_at dksX1_append_1 4 rfl rfl)
theorem dX1_append_29 : decode cX1_append 29 = .ok (.invokestatic 84, 3) := dk_184 0 84 (dk_at dksX1_append_1 5 rfl rfl)
theorem dX1_append_32 : decode cX1_append 32 = .ok (.iadd, 1) := dk_96 (dk_at dksX1_append_1 8 rfl rfl)
theorem dX1_append_33 : decode cX1_append 33 = .ok (.sipush 800, 3) := dk_17 3 32 (dk_at dksX1_append_1 9 rfl rfl)
theorem dX1_append_36 : decode cX1_append 36 = .ok (.if_icmp .gt 7, 3) := dk_163 0 7 (dk_at dksX1_append_1 12 rfl rfl)
theorem dX1_append_39 : decode cX1_append 39 = .ok (.iconst 1, 1) := dk_4 (dk_at dksX1_append_1 15 rfl rfl)
theorem dX1_append_40 : decode cX1_append 40 = .ok (.goto 4, 3) := dk_167 0 4 (dk_at dksX1_append_1 16 rfl rfl)
theorem dX1_append_43 : decode cX1_append 43 = .ok (.iconst 0, 1) := dk_3 (dk_at dksX1_append_1 19 rfl rfl)
theorem dX1_append_44 : decode cX1_append 44 = .ok (.invokestatic 88, 3) := dk_184 0 88 (dk_at dksX1_append_1 20 rfl rfl)
theorem dX1_append_47 : decode cX1_append 47 = .ok (.aload_n 0, 1) := dk_42 (dk_at dksX1_append_1 23 rfl rfl)
theorem dX1_append_48 : decode cX1_append 48 = .ok (.iconst 5, 1) := dk_8 (dk_at dksX1_append_2 0 rfl rfl)
theorem dX1_append_49 : decode cX1_append 49 = .ok (.newarray .int, 2) := dk_188_10 (dk_at dksX1_append_2 1 rfl rfl)
theorem dX1_append_51 : decode cX1_append 51 = .ok (.dup, 1) := dk_89 (dk_at dksX1_append_2 3 rfl rfl)
theorem dX1_append_52 : decode cX1_append 52 = .ok (.iconst 0, 1) := dk_3 (dk_at dksX1_append_2 4 rfl rfl)
theorem dX1_append_53 : decode cX1_append 53 = .ok (.iload_n 1, 1) := dk_27 (dk_at dksX1_append_2 5 rfl rfl)
theorem dX1_append_54 : decode cX1_append 54 = .ok (.iastore, 1) := dk_79 (dk_at dksX1_append_2 6 rfl rfl)
theorem dX1_append_55 : decode cX1_append 55 = .ok (.dup, 1) := dk_89 (dk_at dksX1_append_2 7 rfl rfl)
theorem dX1_append_56 : decode cX1_append 56 = .ok (.iconst 1, 1) := dk_4 (dk_at dksX1_append_2 8 rfl rfl)
theorem dX1_append_57 : decode cX1_append 57 = .ok (.iload_n 2, 1) := dk_28 (dk_at dksX1_append_2 9 rfl rfl)
theorem dX1_append_58 : decode cX1_append 58 = .ok (.iastore, 1) := dk_79 (dk_at dksX1_append_2 10 rfl rfl)
theorem dX1_append_59 : decode cX1_append 59 = .ok (.dup, 1) := dk_89 (dk_at dksX1_append_2 11 rfl rfl)
theorem dX1_append_60 : decode cX1_append 60 = .ok (.iconst 2, 1) := dk_5 (dk_at dksX1_append_2 12 rfl rfl)
theorem dX1_append_61 : decode cX1_append 61 = .ok (.iload_n 3, 1) := dk_29 (dk_at dksX1_append_2 13 rfl rfl)
theorem dX1_append_62 : decode cX1_append 62 = .ok (.iastore, 1) := dk_79 (dk_at dksX1_append_2 14 rfl rfl)
theorem dX1_append_63 : decode cX1_append 63 = .ok (.dup, 1) := dk_89 (dk_at dksX1_append_2 15 rfl rfl)
theorem dX1_append_64 : decode cX1_append 64 = .ok (.iconst 3, 1) := dk_6 (dk_at dksX1_append_2 16 rfl rfl)
theorem dX1_append_65 : decode cX1_append 65 = .ok (.iload 4, 2) := dk_21 4 (dk_at dksX1_append_2 17 rfl rfl)
theorem dX1_append_67 : decode cX1_append 67 = .ok (.iastore, 1) := dk_79 (dk_at dksX1_append_2 19 rfl rfl)
theorem dX1_append_68 : decode cX1_append 68 = .ok (.dup, 1) := dk_89 (dk_at dksX1_append_2 20 rfl rfl)
theorem dX1_append_69 : decode cX1_append 69 = .ok (.iconst 4, 1) := dk_7 (dk_at dksX1_append_2 21 rfl rfl)
theorem dX1_append_70 : decode cX1_append 70 = .ok (.iload 5, 2) := dk_21 5 (dk_at dksX1_append_2 22 rfl rfl)
theorem dX1_append_72 : decode cX1_append 72 = .ok (.iastore, 1) := dk_79 (dk_at dksX1_append_3 0 rfl rfl)
theorem dX1_append_73 : decode cX1_append 73 = .ok (.invokevirtual 92, 3) := dk_182 0 92 (dk_at dksX1_append_3 1 rfl rfl)
theorem dX1_append_76 : decode cX1_append 76 = .ok (.aload_n 0, 1) := dk_42 (dk_at dksX1_append_3 4 rfl rfl)
theorem dX1_append_77 : decode cX1_append 77 = .ok (.getfield 81, 3) := dk_180 0 81 (dk_at dksX1_append_3 5 rfl rfl)
theorem dX1_append_80 : decode cX1_append 80 = .ok (.ireturn, 1) := dk_172 (dk_at dksX1_append_3 8 rfl rfl)
abbrev iX1_append : xM := (yX1_append, cX1_append, 6, (some .int), [])
theorem mX1_append : xOkM iX1_append := ⟨by decide +kernel, by decide, q3220, q130⟩
abbrev cX1_nonZeroBytes : ByteArray := prog_1_method_9_code
def yX1_nonZeroBytes : MethodName := ⟨RX1, "nonZeroBytes", "([I)I"⟩
def dkwX1_nonZeroBytes_2 : List UInt8 := [132, 6, 248, 167, 255, 233, 132, 4, 1, 167, 255, 211, 27, 172]
abbrev dktX1_nonZeroBytes_2 : List UInt8 := dkwX1_nonZeroBytes_2 ++ []
def dkwX1_nonZeroBytes_1 : List UInt8 := [54, 6, 21, 6, 155, 0, 24, 21, 5, 21, 6, 122, 17, 0, 255, 126, 153, 0, 6, 132, 1, 1]
abbrev dktX1_nonZeroBytes_1 : List UInt8 := dkwX1_nonZeroBytes_1 ++ dktX1_nonZeroBytes_2
def dkwX1_nonZeroBytes_0 : List UInt8 := [3, 60, 42, 77, 44, 190, 62, 3, 54, 4, 21, 4, 29, 162, 0, 45, 44, 21, 4, 46, 54, 5, 16, 24]
abbrev dktX1_nonZeroBytes_0 : List UInt8 := dkwX1_nonZeroBytes_0 ++ dktX1_nonZeroBytes_1
theorem dksX1_nonZeroBytes_0 : cX1_nonZeroBytes.data.toList.drop 0 = dktX1_nonZeroBytes_0 := by decide +kernel
theorem dksX1_nonZeroBytes_1 : cX1_nonZeroBytes.data.toList.drop 24 = dktX1_nonZeroBytes_1 := dk_seg dksX1_nonZeroBytes_0 24 rfl rfl
theorem dksX1_nonZeroBytes_2 : cX1_nonZeroBytes.data.toList.drop 46 = dktX1_nonZeroBytes_2 := dk_seg dksX1_nonZeroBytes_1 22 rfl rfl
theorem dX1_nonZeroBytes_0 : decode cX1_nonZeroBytes 0 = .ok (.iconst 0, 1) := dk_3 (dk_at dksX1_nonZeroBytes_0 0 rfl rfl)
theorem dX1_nonZeroBytes_1 : decode cX1_nonZeroBytes 1 = .ok (.istore_n 1, 1) := dk_60 (dk_at dksX1_nonZeroBytes_0 1 rfl rfl)
theorem dX1_nonZeroBytes_2 : decode cX1_nonZeroBytes 2 = .ok (.aload_n 0, 1) := dk_42 (dk_at dksX1_nonZeroBytes_0 2 rfl rfl)
theorem dX1_nonZeroBytes_3 : decode cX1_nonZeroBytes 3 = .ok (.astore_n 2, 1) := dk_77 (dk_at dksX1_nonZeroBytes_0 3 rfl rfl)
theorem dX1_nonZeroBytes_4 : decode cX1_nonZeroBytes 4 = .ok (.aload_n 2, 1) := dk_44 (dk_at dksX1_nonZeroBytes_0 4 rfl rfl)
theorem dX1_nonZeroBytes_5 : decode cX1_nonZeroBytes 5 = .ok (.arraylength, 1) := dk_190 (dk_at dksX1_nonZeroBytes_0 5 rfl rfl)
theorem dX1_nonZeroBytes_6 : decode cX1_nonZeroBytes 6 = .ok (.istore_n 3, 1) := dk_62 (dk_at dksX1_nonZeroBytes_0 6 rfl rfl)
theorem dX1_nonZeroBytes_7 : decode cX1_nonZeroBytes 7 = .ok (.iconst 0, 1) := dk_3 (dk_at dksX1_nonZeroBytes_0 7 rfl rfl)
theorem dX1_nonZeroBytes_8 : decode cX1_nonZeroBytes 8 = .ok (.istore 4, 2) := dk_54 4 (dk_at dksX1_nonZeroBytes_0 8 rfl rfl)
theorem dX1_nonZeroBytes_10 : decode cX1_nonZeroBytes 10 = .ok (.iload 4, 2) := dk_21 4 (dk_at dksX1_nonZeroBytes_0 10 rfl rfl)
theorem dX1_nonZeroBytes_12 : decode cX1_nonZeroBytes 12 = .ok (.iload_n 3, 1) := dk_29 (dk_at dksX1_nonZeroBytes_0 12 rfl rfl)
theorem dX1_nonZeroBytes_13 : decode cX1_nonZeroBytes 13 = .ok (.if_icmp .ge 45, 3) := dk_162 0 45 (dk_at dksX1_nonZeroBytes_0 13 rfl rfl)
theorem dX1_nonZeroBytes_16 : decode cX1_nonZeroBytes 16 = .ok (.aload_n 2, 1) := dk_44 (dk_at dksX1_nonZeroBytes_0 16 rfl rfl)
theorem dX1_nonZeroBytes_17 : decode cX1_nonZeroBytes 17 = .ok (.iload 4, 2) := dk_21 4 (dk_at dksX1_nonZeroBytes_0 17 rfl rfl)
theorem dX1_nonZeroBytes_19 : decode cX1_nonZeroBytes 19 = .ok (.iaload, 1) := dk_46 (dk_at dksX1_nonZeroBytes_0 19 rfl rfl)
theorem dX1_nonZeroBytes_20 : decode cX1_nonZeroBytes 20 = .ok (.istore 5, 2) := dk_54 5 (dk_at dksX1_nonZeroBytes_0 20 rfl rfl)
theorem dX1_nonZeroBytes_22 : decode cX1_nonZeroBytes 22 = .ok (.bipush 24, 2) := dk_16 24 (dk_at dksX1_nonZeroBytes_0 22 rfl rfl)
theorem dX1_nonZeroBytes_24 : decode cX1_nonZeroBytes 24 = .ok (.istore 6, 2) := dk_54 6 (dk_at dksX1_nonZeroBytes_1 0 rfl rfl)
theorem dX1_nonZeroBytes_26 : decode cX1_nonZeroBytes 26 = .ok (.iload 6, 2) := dk_21 6 (dk_at dksX1_nonZeroBytes_1 2 rfl rfl)
theorem dX1_nonZeroBytes_28 : decode cX1_nonZeroBytes 28 = .ok (.ifCond .lt 24, 3) := dk_155 0 24 (dk_at dksX1_nonZeroBytes_1 4 rfl rfl)
theorem dX1_nonZeroBytes_31 : decode cX1_nonZeroBytes 31 = .ok (.iload 5, 2) := dk_21 5 (dk_at dksX1_nonZeroBytes_1 7 rfl rfl)
theorem dX1_nonZeroBytes_33 : decode cX1_nonZeroBytes 33 = .ok (.iload 6, 2) := dk_21 6 (dk_at dksX1_nonZeroBytes_1 9 rfl rfl)
theorem dX1_nonZeroBytes_35 : decode cX1_nonZeroBytes 35 = .ok (.ishr, 1) := dk_122 (dk_at dksX1_nonZeroBytes_1 11 rfl rfl)
theorem dX1_nonZeroBytes_36 : decode cX1_nonZeroBytes 36 = .ok (.sipush 255, 3) := dk_17 0 255 (dk_at dksX1_nonZeroBytes_1 12 rfl rfl)
theorem dX1_nonZeroBytes_39 : decode cX1_nonZeroBytes 39 = .ok (.iand, 1) := dk_126 (dk_at dksX1_nonZeroBytes_1 15 rfl rfl)
theorem dX1_nonZeroBytes_40 : decode cX1_nonZeroBytes 40 = .ok (.ifCond .eq 6, 3) := dk_153 0 6 (dk_at dksX1_nonZeroBytes_1 16 rfl rfl)
theorem dX1_nonZeroBytes_43 : decode cX1_nonZeroBytes 43 = .ok (.iinc 1 1, 3) := dk_132 1 1 (dk_at dksX1_nonZeroBytes_1 19 rfl rfl)
theorem dX1_nonZeroBytes_46 : decode cX1_nonZeroBytes 46 = .ok (.iinc 6 (-8), 3) := dk_132 6 248 (dk_at dksX1_nonZeroBytes_2 0 rfl rfl)
theorem dX1_nonZeroBytes_49 : decode cX1_nonZeroBytes 49 = .ok (.goto (-23), 3) := dk_167 255 233 (dk_at dksX1_nonZeroBytes_2 3 rfl rfl)
theorem dX1_nonZeroBytes_52 : decode cX1_nonZeroBytes 52 = .ok (.iinc 4 1, 3) := dk_132 4 1 (dk_at dksX1_nonZeroBytes_2 6 rfl rfl)
theorem dX1_nonZeroBytes_55 : decode cX1_nonZeroBytes 55 = .ok (.goto (-45), 3) := dk_167 255 211 (dk_at dksX1_nonZeroBytes_2 9 rfl rfl)
theorem dX1_nonZeroBytes_58 : decode cX1_nonZeroBytes 58 = .ok (.iload_n 1, 1) := dk_27 (dk_at dksX1_nonZeroBytes_2 12 rfl rfl)
theorem dX1_nonZeroBytes_59 : decode cX1_nonZeroBytes 59 = .ok (.ireturn, 1) := dk_172 (dk_at dksX1_nonZeroBytes_2 13 rfl rfl)
abbrev iX1_nonZeroBytes : xM := (yX1_nonZeroBytes, cX1_nonZeroBytes, 7, (some .int), [])
theorem mX1_nonZeroBytes : xOkM iX1_nonZeroBytes := ⟨by decide +kernel, by decide, q3223, q130⟩
abbrev cX1_appendBytes : ByteArray := prog_1_method_10_code
def yX1_appendBytes : MethodName := ⟨RX1, "appendBytes", "([I)V"⟩
def dkwX1_appendBytes_3 : List UInt8 := [167, 255, 208, 132, 4, 1, 167, 255, 186, 177]
abbrev dktX1_appendBytes_3 : List UInt8 := dkwX1_appendBytes_3 ++ []
def dkwX1_appendBytes_2 : List UInt8 := [42, 180, 0, 81, 21, 5, 21, 6, 122, 145, 84, 42, 89, 180, 0, 81, 4, 96, 181, 0, 81, 132, 6, 248]
abbrev dktX1_appendBytes_2 : List UInt8 := dkwX1_appendBytes_2 ++ dktX1_appendBytes_3
def dkwX1_appendBytes_1 : List UInt8 := [21, 6, 155, 0, 49, 21, 5, 21, 6, 122, 17, 0, 255, 126, 154, 0, 6, 167, 0, 28, 42, 180, 0, 66]
abbrev dktX1_appendBytes_1 : List UInt8 := dkwX1_appendBytes_1 ++ dktX1_appendBytes_2
def dkwX1_appendBytes_0 : List UInt8 := [43, 77, 44, 190, 62, 3, 54, 4, 21, 4, 29, 162, 0, 70, 44, 21, 4, 46, 54, 5, 16, 24, 54, 6]
abbrev dktX1_appendBytes_0 : List UInt8 := dkwX1_appendBytes_0 ++ dktX1_appendBytes_1
theorem dksX1_appendBytes_0 : cX1_appendBytes.data.toList.drop 0 = dktX1_appendBytes_0 := by decide +kernel
theorem dksX1_appendBytes_1 : cX1_appendBytes.data.toList.drop 24 = dktX1_appendBytes_1 := dk_seg dksX1_appendBytes_0 24 rfl rfl
theorem dksX1_appendBytes_2 : cX1_appendBytes.data.toList.drop 48 = dktX1_appendBytes_2 := dk_seg dksX1_appendBytes_1 24 rfl rfl
theorem dksX1_appendBytes_3 : cX1_appendBytes.data.toList.drop 72 = dktX1_appendBytes_3 := dk_seg dksX1_appendBytes_2 24 rfl rfl
theorem dX1_appendBytes_0 : decode cX1_appendBytes 0 = .ok (.aload_n 1, 1) := dk_43 (dk_at dksX1_appendBytes_0 0 rfl rfl)
theorem dX1_appendBytes_1 : decode cX1_appendBytes 1 = .ok (.astore_n 2, 1) := dk_77 (dk_at dksX1_appendBytes_0 1 rfl rfl)
theorem dX1_appendBytes_2 : decode cX1_appendBytes 2 = .ok (.aload_n 2, 1) := dk_44 (dk_at dksX1_appendBytes_0 2 rfl rfl)
theorem dX1_appendBytes_3 : decode cX1_appendBytes 3 = .ok (.arraylength, 1) := dk_190 (dk_at dksX1_appendBytes_0 3 rfl rfl)
theorem dX1_appendBytes_4 : decode cX1_appendBytes 4 = .ok (.istore_n 3, 1) := dk_62 (dk_at dksX1_appendBytes_0 4 rfl rfl)
theorem dX1_appendBytes_5 : decode cX1_appendBytes 5 = .ok (.iconst 0, 1) := dk_3 (dk_at dksX1_appendBytes_0 5 rfl rfl)
theorem dX1_appendBytes_6 : decode cX1_appendBytes 6 = .ok (.istore 4, 2) := dk_54 4 (dk_at dksX1_appendBytes_0 6 rfl rfl)
theorem dX1_appendBytes_8 : decode cX1_appendBytes 8 = .ok (.iload 4, 2) := dk_21 4 (dk_at dksX1_appendBytes_0 8 rfl rfl)
theorem dX1_appendBytes_10 : decode cX1_appendBytes 10 = .ok (.iload_n 3, 1) := dk_29 (dk_at dksX1_appendBytes_0 10 rfl rfl)
theorem dX1_appendBytes_11 : decode cX1_appendBytes 11 = .ok (.if_icmp .ge 70, 3) := dk_162 0 70 (dk_at dksX1_appendBytes_0 11 rfl rfl)
theorem dX1_appendBytes_14 : decode cX1_appendBytes 14 = .ok (.aload_n 2, 1) := dk_44 (dk_at dksX1_appendBytes_0 14 rfl rfl)
theorem dX1_appendBytes_15 : decode cX1_appendBytes 15 = .ok (.iload 4, 2) := dk_21 4 (dk_at dksX1_appendBytes_0 15 rfl rfl)
theorem dX1_appendBytes_17 : decode cX1_appendBytes 17 = .ok (.iaload, 1) := dk_46 (dk_at dksX1_appendBytes_0 17 rfl rfl)
theorem dX1_appendBytes_18 : decode cX1_appendBytes 18 = .ok (.istore 5, 2) := dk_54 5 (dk_at dksX1_appendBytes_0 18 rfl rfl)
theorem dX1_appendBytes_20 : decode cX1_appendBytes 20 = .ok (.bipush 24, 2) := dk_16 24 (dk_at dksX1_appendBytes_0 20 rfl rfl)
theorem dX1_appendBytes_22 : decode cX1_appendBytes 22 = .ok (.istore 6, 2) := dk_54 6 (dk_at dksX1_appendBytes_0 22 rfl rfl)
theorem dX1_appendBytes_24 : decode cX1_appendBytes 24 = .ok (.iload 6, 2) := dk_21 6 (dk_at dksX1_appendBytes_1 0 rfl rfl)
theorem dX1_appendBytes_26 : decode cX1_appendBytes 26 = .ok (.ifCond .lt 49, 3) := dk_155 0 49 (dk_at dksX1_appendBytes_1 2 rfl rfl)
theorem dX1_appendBytes_29 : decode cX1_appendBytes 29 = .ok (.iload 5, 2) := dk_21 5 (dk_at dksX1_appendBytes_1 5 rfl rfl)
theorem dX1_appendBytes_31 : decode cX1_appendBytes 31 = .ok (.iload 6, 2) := dk_21 6 (dk_at dksX1_appendBytes_1 7 rfl rfl)
theorem dX1_appendBytes_33 : decode cX1_appendBytes 33 = .ok (.ishr, 1) := dk_122 (dk_at dksX1_appendBytes_1 9 rfl rfl)
theorem dX1_appendBytes_34 : decode cX1_appendBytes 34 = .ok (.sipush 255, 3) := dk_17 0 255 (dk_at dksX1_appendBytes_1 10 rfl rfl)
theorem dX1_appendBytes_37 : decode cX1_appendBytes 37 = .ok (.iand, 1) := dk_126 (dk_at dksX1_appendBytes_1 13 rfl rfl)
theorem dX1_appendBytes_38 : decode cX1_appendBytes 38 = .ok (.ifCond .ne 6, 3) := dk_154 0 6 (dk_at dksX1_appendBytes_1 14 rfl rfl)
theorem dX1_appendBytes_41 : decode cX1_appendBytes 41 = .ok (.goto 28, 3) := dk_167 0 28 (dk_at dksX1_appendBytes_1 17 rfl rfl)
theorem dX1_appendBytes_44 : decode cX1_appendBytes 44 = .ok (.aload_n 0, 1) := dk_42 (dk_at dksX1_appendBytes_1 20 rfl rfl)
theorem dX1_appendBytes_45 : decode cX1_appendBytes 45 = .ok (.getfield 66, 3) := dk_180 0 66 (dk_at dksX1_appendBytes_1 21 rfl rfl)
theorem dX1_appendBytes_48 : decode cX1_appendBytes 48 = .ok (.aload_n 0, 1) := dk_42 (dk_at dksX1_appendBytes_2 0 rfl rfl)
theorem dX1_appendBytes_49 : decode cX1_appendBytes 49 = .ok (.getfield 81, 3) := dk_180 0 81 (dk_at dksX1_appendBytes_2 1 rfl rfl)
theorem dX1_appendBytes_52 : decode cX1_appendBytes 52 = .ok (.iload 5, 2) := dk_21 5 (dk_at dksX1_appendBytes_2 4 rfl rfl)
theorem dX1_appendBytes_54 : decode cX1_appendBytes 54 = .ok (.iload 6, 2) := dk_21 6 (dk_at dksX1_appendBytes_2 6 rfl rfl)
theorem dX1_appendBytes_56 : decode cX1_appendBytes 56 = .ok (.ishr, 1) := dk_122 (dk_at dksX1_appendBytes_2 8 rfl rfl)
theorem dX1_appendBytes_57 : decode cX1_appendBytes 57 = .ok (.i2b, 1) := dk_145 (dk_at dksX1_appendBytes_2 9 rfl rfl)
theorem dX1_appendBytes_58 : decode cX1_appendBytes 58 = .ok (.bastore, 1) := dk_84 (dk_at dksX1_appendBytes_2 10 rfl rfl)
theorem dX1_appendBytes_59 : decode cX1_appendBytes 59 = .ok (.aload_n 0, 1) := dk_42 (dk_at dksX1_appendBytes_2 11 rfl rfl)
theorem dX1_appendBytes_60 : decode cX1_appendBytes 60 = .ok (.dup, 1) := dk_89 (dk_at dksX1_appendBytes_2 12 rfl rfl)
theorem dX1_appendBytes_61 : decode cX1_appendBytes 61 = .ok (.getfield 81, 3) := dk_180 0 81 (dk_at dksX1_appendBytes_2 13 rfl rfl)
theorem dX1_appendBytes_64 : decode cX1_appendBytes 64 = .ok (.iconst 1, 1) := dk_4 (dk_at dksX1_appendBytes_2 16 rfl rfl)
theorem dX1_appendBytes_65 : decode cX1_appendBytes 65 = .ok (.iadd, 1) := dk_96 (dk_at dksX1_appendBytes_2 17 rfl rfl)
theorem dX1_appendBytes_66 : decode cX1_appendBytes 66 = .ok (.putfield 81, 3) := dk_181 0 81 (dk_at dksX1_appendBytes_2 18 rfl rfl)
theorem dX1_appendBytes_69 : decode cX1_appendBytes 69 = .ok (.iinc 6 (-8), 3) := dk_132 6 248 (dk_at dksX1_appendBytes_2 21 rfl rfl)
theorem dX1_appendBytes_72 : decode cX1_appendBytes 72 = .ok (.goto (-48), 3) := dk_167 255 208 (dk_at dksX1_appendBytes_3 0 rfl rfl)
theorem dX1_appendBytes_75 : decode cX1_appendBytes 75 = .ok (.iinc 4 1, 3) := dk_132 4 1 (dk_at dksX1_appendBytes_3 3 rfl rfl)
theorem dX1_appendBytes_78 : decode cX1_appendBytes 78 = .ok (.goto (-70), 3) := dk_167 255 186 (dk_at dksX1_appendBytes_3 6 rfl rfl)
theorem dX1_appendBytes_81 : decode cX1_appendBytes 81 = .ok (.return_, 1) := dk_177 (dk_at dksX1_appendBytes_3 9 rfl rfl)
abbrev iX1_appendBytes : xM := (yX1_appendBytes, cX1_appendBytes, 7, none, [])
theorem mX1_appendBytes : xOkM iX1_appendBytes := ⟨by decide +kernel, by decide, q3228, q130⟩
abbrev cX1_truncate : ByteArray := prog_1_method_12_code
def yX1_truncate : MethodName := ⟨RX1, "truncate", "(I)I"⟩
def dkwX1_truncate_0 : List UInt8 := [27, 3, 42, 180, 0, 81, 184, 0, 96, 184, 0, 100, 42, 27, 181, 0, 81, 27, 172]
abbrev dktX1_truncate_0 : List UInt8 := dkwX1_truncate_0 ++ []
theorem dksX1_truncate_0 : cX1_truncate.data.toList.drop 0 = dktX1_truncate_0 := by decide +kernel
theorem dX1_truncate_0 : decode cX1_truncate 0 = .ok (.iload_n 1, 1) := dk_27 (dk_at dksX1_truncate_0 0 rfl rfl)
theorem dX1_truncate_1 : decode cX1_truncate 1 = .ok (.iconst 0, 1) := dk_3 (dk_at dksX1_truncate_0 1 rfl rfl)
theorem dX1_truncate_2 : decode cX1_truncate 2 = .ok (.aload_n 0, 1) := dk_42 (dk_at dksX1_truncate_0 2 rfl rfl)
theorem dX1_truncate_3 : decode cX1_truncate 3 = .ok (.getfield 81, 3) := dk_180 0 81 (dk_at dksX1_truncate_0 3 rfl rfl)
theorem dX1_truncate_6 : decode cX1_truncate 6 = .ok (.invokestatic 96, 3) := dk_184 0 96 (dk_at dksX1_truncate_0 6 rfl rfl)
theorem dX1_truncate_9 : decode cX1_truncate 9 = .ok (.invokestatic 100, 3) := dk_184 0 100 (dk_at dksX1_truncate_0 9 rfl rfl)
theorem dX1_truncate_12 : decode cX1_truncate 12 = .ok (.aload_n 0, 1) := dk_42 (dk_at dksX1_truncate_0 12 rfl rfl)
theorem dX1_truncate_13 : decode cX1_truncate 13 = .ok (.iload_n 1, 1) := dk_27 (dk_at dksX1_truncate_0 13 rfl rfl)
theorem dX1_truncate_14 : decode cX1_truncate 14 = .ok (.putfield 81, 3) := dk_181 0 81 (dk_at dksX1_truncate_0 14 rfl rfl)
theorem dX1_truncate_17 : decode cX1_truncate 17 = .ok (.iload_n 1, 1) := dk_27 (dk_at dksX1_truncate_0 17 rfl rfl)
theorem dX1_truncate_18 : decode cX1_truncate 18 = .ok (.ireturn, 1) := dk_172 (dk_at dksX1_truncate_0 18 rfl rfl)
abbrev iX1_truncate : xM := (yX1_truncate, cX1_truncate, 2, (some .int), [])
theorem mX1_truncate : xOkM iX1_truncate := ⟨by decide +kernel, by decide, q3236, q130⟩
abbrev cX1_stretch : ByteArray := prog_1_method_26_code
def yX1_stretch : MethodName := ⟨RX1, "stretch", "(I)I"⟩
def dkwX1_stretch_0 : List UInt8 := [27, 3, 6, 184, 0, 96, 184, 0, 192, 42, 182, 0, 162, 180, 0, 18, 27, 46, 172]
abbrev dktX1_stretch_0 : List UInt8 := dkwX1_stretch_0 ++ []
theorem dksX1_stretch_0 : cX1_stretch.data.toList.drop 0 = dktX1_stretch_0 := by decide +kernel
theorem dX1_stretch_0 : decode cX1_stretch 0 = .ok (.iload_n 1, 1) := dk_27 (dk_at dksX1_stretch_0 0 rfl rfl)
theorem dX1_stretch_1 : decode cX1_stretch 1 = .ok (.iconst 0, 1) := dk_3 (dk_at dksX1_stretch_0 1 rfl rfl)
theorem dX1_stretch_2 : decode cX1_stretch 2 = .ok (.iconst 3, 1) := dk_6 (dk_at dksX1_stretch_0 2 rfl rfl)
theorem dX1_stretch_3 : decode cX1_stretch 3 = .ok (.invokestatic 96, 3) := dk_184 0 96 (dk_at dksX1_stretch_0 3 rfl rfl)
theorem dX1_stretch_6 : decode cX1_stretch 6 = .ok (.invokestatic 192, 3) := dk_184 0 192 (dk_at dksX1_stretch_0 6 rfl rfl)
theorem dX1_stretch_9 : decode cX1_stretch 9 = .ok (.aload_n 0, 1) := dk_42 (dk_at dksX1_stretch_0 9 rfl rfl)
theorem dX1_stretch_10 : decode cX1_stretch 10 = .ok (.invokevirtual 162, 3) := dk_182 0 162 (dk_at dksX1_stretch_0 10 rfl rfl)
theorem dX1_stretch_13 : decode cX1_stretch 13 = .ok (.getfield 18, 3) := dk_180 0 18 (dk_at dksX1_stretch_0 13 rfl rfl)
theorem dX1_stretch_16 : decode cX1_stretch 16 = .ok (.iload_n 1, 1) := dk_27 (dk_at dksX1_stretch_0 16 rfl rfl)
theorem dX1_stretch_17 : decode cX1_stretch 17 = .ok (.iaload, 1) := dk_46 (dk_at dksX1_stretch_0 17 rfl rfl)
theorem dX1_stretch_18 : decode cX1_stretch 18 = .ok (.ireturn, 1) := dk_172 (dk_at dksX1_stretch_0 18 rfl rfl)
abbrev iX1_stretch : xM := (yX1_stretch, cX1_stretch, 2, (some .int), [])
theorem mX1_stretch : xOkM iX1_stretch := ⟨by decide +kernel, by decide, q3245, q130⟩
abbrev cX1_placeOf : ByteArray := prog_1_method_30_code
def yX1_placeOf : MethodName := ⟨RX1, "placeOf", "(I)I"⟩
def dkwX1_placeOf_0 : List UInt8 := [42, 182, 0, 162, 42, 182, 0, 162, 27, 182, 0, 216, 180, 0, 213, 182, 0, 220, 172]
abbrev dktX1_placeOf_0 : List UInt8 := dkwX1_placeOf_0 ++ []
theorem dksX1_placeOf_0 : cX1_placeOf.data.toList.drop 0 = dktX1_placeOf_0 := by decide +kernel
theorem dX1_placeOf_0 : decode cX1_placeOf 0 = .ok (.aload_n 0, 1) := dk_42 (dk_at dksX1_placeOf_0 0 rfl rfl)
theorem dX1_placeOf_1 : decode cX1_placeOf 1 = .ok (.invokevirtual 162, 3) := dk_182 0 162 (dk_at dksX1_placeOf_0 1 rfl rfl)
theorem dX1_placeOf_4 : decode cX1_placeOf 4 = .ok (.aload_n 0, 1) := dk_42 (dk_at dksX1_placeOf_0 4 rfl rfl)
theorem dX1_placeOf_5 : decode cX1_placeOf 5 = .ok (.invokevirtual 162, 3) := dk_182 0 162 (dk_at dksX1_placeOf_0 5 rfl rfl)
theorem dX1_placeOf_8 : decode cX1_placeOf 8 = .ok (.iload_n 1, 1) := dk_27 (dk_at dksX1_placeOf_0 8 rfl rfl)
theorem dX1_placeOf_9 : decode cX1_placeOf 9 = .ok (.invokevirtual 216, 3) := dk_182 0 216 (dk_at dksX1_placeOf_0 9 rfl rfl)
theorem dX1_placeOf_12 : decode cX1_placeOf 12 = .ok (.getfield 213, 3) := dk_180 0 213 (dk_at dksX1_placeOf_0 12 rfl rfl)
theorem dX1_placeOf_15 : decode cX1_placeOf 15 = .ok (.invokevirtual 220, 3) := dk_182 0 220 (dk_at dksX1_placeOf_0 15 rfl rfl)
theorem dX1_placeOf_18 : decode cX1_placeOf 18 = .ok (.ireturn, 1) := dk_172 (dk_at dksX1_placeOf_0 18 rfl rfl)
abbrev iX1_placeOf : xM := (yX1_placeOf, cX1_placeOf, 2, (some .int), [])
theorem mX1_placeOf : xOkM iX1_placeOf := ⟨by decide +kernel, by decide, q3253, q130⟩
abbrev cX1_nameLetter : ByteArray := prog_1_method_32_code
def yX1_nameLetter : MethodName := ⟨RX1, "nameLetter", "(II)I"⟩
def dkwX1_nameLetter_1 : List UInt8 := [153, 0, 11, 45, 28, 182, 0, 237, 167, 0, 4, 2, 172]
abbrev dktX1_nameLetter_1 : List UInt8 := dkwX1_nameLetter_1 ++ []
def dkwX1_nameLetter_0 : List UInt8 := [42, 182, 0, 162, 27, 182, 0, 216, 180, 0, 231, 78, 28, 3, 45, 182, 0, 235, 4, 100, 184, 0, 96]
abbrev dktX1_nameLetter_0 : List UInt8 := dkwX1_nameLetter_0 ++ dktX1_nameLetter_1
theorem dksX1_nameLetter_0 : cX1_nameLetter.data.toList.drop 0 = dktX1_nameLetter_0 := by decide +kernel
theorem dksX1_nameLetter_1 : cX1_nameLetter.data.toList.drop 23 = dktX1_nameLetter_1 := dk_seg dksX1_nameLetter_0 23 rfl rfl
theorem dX1_nameLetter_0 : decode cX1_nameLetter 0 = .ok (.aload_n 0, 1) := dk_42 (dk_at dksX1_nameLetter_0 0 rfl rfl)
theorem dX1_nameLetter_1 : decode cX1_nameLetter 1 = .ok (.invokevirtual 162, 3) := dk_182 0 162 (dk_at dksX1_nameLetter_0 1 rfl rfl)
theorem dX1_nameLetter_4 : decode cX1_nameLetter 4 = .ok (.iload_n 1, 1) := dk_27 (dk_at dksX1_nameLetter_0 4 rfl rfl)
theorem dX1_nameLetter_5 : decode cX1_nameLetter 5 = .ok (.invokevirtual 216, 3) := dk_182 0 216 (dk_at dksX1_nameLetter_0 5 rfl rfl)
theorem dX1_nameLetter_8 : decode cX1_nameLetter 8 = .ok (.getfield 231, 3) := dk_180 0 231 (dk_at dksX1_nameLetter_0 8 rfl rfl)
theorem dX1_nameLetter_11 : decode cX1_nameLetter 11 = .ok (.astore_n 3, 1) := dk_78 (dk_at dksX1_nameLetter_0 11 rfl rfl)
theorem dX1_nameLetter_12 : decode cX1_nameLetter 12 = .ok (.iload_n 2, 1) := dk_28 (dk_at dksX1_nameLetter_0 12 rfl rfl)
theorem dX1_nameLetter_13 : decode cX1_nameLetter 13 = .ok (.iconst 0, 1) := dk_3 (dk_at dksX1_nameLetter_0 13 rfl rfl)
theorem dX1_nameLetter_14 : decode cX1_nameLetter 14 = .ok (.aload_n 3, 1) := dk_45 (dk_at dksX1_nameLetter_0 14 rfl rfl)
theorem dX1_nameLetter_15 : decode cX1_nameLetter 15 = .ok (.invokevirtual 235, 3) := dk_182 0 235 (dk_at dksX1_nameLetter_0 15 rfl rfl)
theorem dX1_nameLetter_18 : decode cX1_nameLetter 18 = .ok (.iconst 1, 1) := dk_4 (dk_at dksX1_nameLetter_0 18 rfl rfl)
theorem dX1_nameLetter_19 : decode cX1_nameLetter 19 = .ok (.isub, 1) := dk_100 (dk_at dksX1_nameLetter_0 19 rfl rfl)
theorem dX1_nameLetter_20 : decode cX1_nameLetter 20 = .ok (.invokestatic 96, 3) := dk_184 0 96 (dk_at dksX1_nameLetter_0 20 rfl rfl)
theorem dX1_nameLetter_23 : decode cX1_nameLetter 23 = .ok (.ifCond .eq 11, 3) := dk_153 0 11 (dk_at dksX1_nameLetter_1 0 rfl rfl)
theorem dX1_nameLetter_26 : decode cX1_nameLetter 26 = .ok (.aload_n 3, 1) := dk_45 (dk_at dksX1_nameLetter_1 3 rfl rfl)
theorem dX1_nameLetter_27 : decode cX1_nameLetter 27 = .ok (.iload_n 2, 1) := dk_28 (dk_at dksX1_nameLetter_1 4 rfl rfl)
theorem dX1_nameLetter_28 : decode cX1_nameLetter 28 = .ok (.invokevirtual 237, 3) := dk_182 0 237 (dk_at dksX1_nameLetter_1 5 rfl rfl)
theorem dX1_nameLetter_31 : decode cX1_nameLetter 31 = .ok (.goto 4, 3) := dk_167 0 4 (dk_at dksX1_nameLetter_1 8 rfl rfl)
theorem dX1_nameLetter_34 : decode cX1_nameLetter 34 = .ok (.iconst (-1), 1) := dk_2 (dk_at dksX1_nameLetter_1 11 rfl rfl)
theorem dX1_nameLetter_35 : decode cX1_nameLetter 35 = .ok (.ireturn, 1) := dk_172 (dk_at dksX1_nameLetter_1 12 rfl rfl)
abbrev iX1_nameLetter : xM := (yX1_nameLetter, cX1_nameLetter, 4, (some .int), [])
theorem mX1_nameLetter : xOkM iX1_nameLetter := ⟨by decide +kernel, by decide, q3262, q130⟩
abbrev cX1_patienceOf : ByteArray := prog_1_method_33_code
def yX1_patienceOf : MethodName := ⟨RX1, "patienceOf", "(I)I"⟩
def dkwX1_patienceOf_0 : List UInt8 := [42, 182, 0, 162, 27, 182, 0, 216, 180, 0, 241, 172]
abbrev dktX1_patienceOf_0 : List UInt8 := dkwX1_patienceOf_0 ++ []
theorem dksX1_patienceOf_0 : cX1_patienceOf.data.toList.drop 0 = dktX1_patienceOf_0 := by decide +kernel
theorem dX1_patienceOf_0 : decode cX1_patienceOf 0 = .ok (.aload_n 0, 1) := dk_42 (dk_at dksX1_patienceOf_0 0 rfl rfl)
theorem dX1_patienceOf_1 : decode cX1_patienceOf 1 = .ok (.invokevirtual 162, 3) := dk_182 0 162 (dk_at dksX1_patienceOf_0 1 rfl rfl)
theorem dX1_patienceOf_4 : decode cX1_patienceOf 4 = .ok (.iload_n 1, 1) := dk_27 (dk_at dksX1_patienceOf_0 4 rfl rfl)
theorem dX1_patienceOf_5 : decode cX1_patienceOf 5 = .ok (.invokevirtual 216, 3) := dk_182 0 216 (dk_at dksX1_patienceOf_0 5 rfl rfl)
theorem dX1_patienceOf_8 : decode cX1_patienceOf 8 = .ok (.getfield 241, 3) := dk_180 0 241 (dk_at dksX1_patienceOf_0 8 rfl rfl)
theorem dX1_patienceOf_11 : decode cX1_patienceOf 11 = .ok (.ireturn, 1) := dk_172 (dk_at dksX1_patienceOf_0 11 rfl rfl)
abbrev iX1_patienceOf : xM := (yX1_patienceOf, cX1_patienceOf, 2, (some .int), [])
theorem mX1_patienceOf : xOkM iX1_patienceOf := ⟨by decide +kernel, by decide, q3271, q130⟩
abbrev cX1_deviation : ByteArray := prog_1_method_34_code
def yX1_deviation : MethodName := ⟨RX1, "deviation", "(II)I"⟩
def dkwX1_deviation_0 : List UInt8 := [42, 182, 0, 162, 27, 28, 182, 0, 244, 180, 0, 248, 172]
abbrev dktX1_deviation_0 : List UInt8 := dkwX1_deviation_0 ++ []
theorem dksX1_deviation_0 : cX1_deviation.data.toList.drop 0 = dktX1_deviation_0 := by decide +kernel
theorem dX1_deviation_0 : decode cX1_deviation 0 = .ok (.aload_n 0, 1) := dk_42 (dk_at dksX1_deviation_0 0 rfl rfl)
theorem dX1_deviation_1 : decode cX1_deviation 1 = .ok (.invokevirtual 162, 3) := dk_182 0 162 (dk_at dksX1_deviation_0 1 rfl rfl)
theorem dX1_deviation_4 : decode cX1_deviation 4 = .ok (.iload_n 1, 1) := dk_27 (dk_at dksX1_deviation_0 4 rfl rfl)
theorem dX1_deviation_5 : decode cX1_deviation 5 = .ok (.iload_n 2, 1) := dk_28 (dk_at dksX1_deviation_0 5 rfl rfl)
theorem dX1_deviation_6 : decode cX1_deviation 6 = .ok (.invokevirtual 244, 3) := dk_182 0 244 (dk_at dksX1_deviation_0 6 rfl rfl)
theorem dX1_deviation_9 : decode cX1_deviation 9 = .ok (.getfield 248, 3) := dk_180 0 248 (dk_at dksX1_deviation_0 9 rfl rfl)
theorem dX1_deviation_12 : decode cX1_deviation 12 = .ok (.ireturn, 1) := dk_172 (dk_at dksX1_deviation_0 12 rfl rfl)
abbrev iX1_deviation : xM := (yX1_deviation, cX1_deviation, 3, (some .int), [])
theorem mX1_deviation : xOkM iX1_deviation := ⟨by decide +kernel, by decide, q3278, q130⟩
abbrev cX1_grip : ByteArray := prog_1_method_35_code
def yX1_grip : MethodName := ⟨RX1, "grip", "(II)I"⟩
def dkwX1_grip_0 : List UInt8 := [42, 182, 0, 162, 27, 28, 182, 0, 253, 180, 1, 0, 172]
abbrev dktX1_grip_0 : List UInt8 := dkwX1_grip_0 ++ []
theorem dksX1_grip_0 : cX1_grip.data.toList.drop 0 = dktX1_grip_0 := by decide +kernel
theorem dX1_grip_0 : decode cX1_grip 0 = .ok (.aload_n 0, 1) := dk_42 (dk_at dksX1_grip_0 0 rfl rfl)
theorem dX1_grip_1 : decode cX1_grip 1 = .ok (.invokevirtual 162, 3) := dk_182 0 162 (dk_at dksX1_grip_0 1 rfl rfl)
theorem dX1_grip_4 : decode cX1_grip 4 = .ok (.iload_n 1, 1) := dk_27 (dk_at dksX1_grip_0 4 rfl rfl)
theorem dX1_grip_5 : decode cX1_grip 5 = .ok (.iload_n 2, 1) := dk_28 (dk_at dksX1_grip_0 5 rfl rfl)
theorem dX1_grip_6 : decode cX1_grip 6 = .ok (.invokevirtual 253, 3) := dk_182 0 253 (dk_at dksX1_grip_0 6 rfl rfl)
theorem dX1_grip_9 : decode cX1_grip 9 = .ok (.getfield 256, 3) := dk_180 1 0 (dk_at dksX1_grip_0 9 rfl rfl)
theorem dX1_grip_12 : decode cX1_grip 12 = .ok (.ireturn, 1) := dk_172 (dk_at dksX1_grip_0 12 rfl rfl)
abbrev iX1_grip : xM := (yX1_grip, cX1_grip, 3, (some .int), [])
theorem mX1_grip : xOkM iX1_grip := ⟨by decide +kernel, by decide, q3289, q130⟩
abbrev cX1_isBroken : ByteArray := prog_1_method_36_code
def yX1_isBroken : MethodName := ⟨RX1, "isBroken", "(II)Z"⟩
def dkwX1_isBroken_0 : List UInt8 := [42, 182, 0, 162, 27, 28, 182, 0, 253, 180, 1, 3, 172]
abbrev dktX1_isBroken_0 : List UInt8 := dkwX1_isBroken_0 ++ []
theorem dksX1_isBroken_0 : cX1_isBroken.data.toList.drop 0 = dktX1_isBroken_0 := by decide +kernel
theorem dX1_isBroken_0 : decode cX1_isBroken 0 = .ok (.aload_n 0, 1) := dk_42 (dk_at dksX1_isBroken_0 0 rfl rfl)
theorem dX1_isBroken_1 : decode cX1_isBroken 1 = .ok (.invokevirtual 162, 3) := dk_182 0 162 (dk_at dksX1_isBroken_0 1 rfl rfl)
theorem dX1_isBroken_4 : decode cX1_isBroken 4 = .ok (.iload_n 1, 1) := dk_27 (dk_at dksX1_isBroken_0 4 rfl rfl)
theorem dX1_isBroken_5 : decode cX1_isBroken 5 = .ok (.iload_n 2, 1) := dk_28 (dk_at dksX1_isBroken_0 5 rfl rfl)
theorem dX1_isBroken_6 : decode cX1_isBroken 6 = .ok (.invokevirtual 253, 3) := dk_182 0 253 (dk_at dksX1_isBroken_0 6 rfl rfl)
theorem dX1_isBroken_9 : decode cX1_isBroken 9 = .ok (.getfield 259, 3) := dk_180 1 3 (dk_at dksX1_isBroken_0 9 rfl rfl)
theorem dX1_isBroken_12 : decode cX1_isBroken 12 = .ok (.ireturn, 1) := dk_172 (dk_at dksX1_isBroken_0 12 rfl rfl)
abbrev iX1_isBroken : xM := (yX1_isBroken, cX1_isBroken, 3, (some .boolean), [])
theorem mX1_isBroken : xOkM iX1_isBroken := ⟨by decide +kernel, by decide, q3297, q130⟩
abbrev cX1_widestGap : ByteArray := prog_1_method_37_code
def yX1_widestGap : MethodName := ⟨RX1, "widestGap", "(I)I"⟩
def dkwX1_widestGap_5 : List UInt8 := [61, 132, 3, 1, 167, 255, 148, 28, 172]
abbrev dktX1_widestGap_5 : List UInt8 := dkwX1_widestGap_5 ++ []
def dkwX1_widestGap_4 : List UInt8 := [180, 1, 3, 154, 0, 22, 28, 25, 4, 180, 0, 248, 25, 5, 180, 0, 248, 100, 184, 1, 7, 184, 1, 12]
abbrev dktX1_widestGap_4 : List UInt8 := dkwX1_widestGap_4 ++ dktX1_widestGap_5
def dkwX1_widestGap_3 : List UInt8 := [192, 0, 211, 180, 0, 213, 27, 182, 0, 253, 58, 5, 25, 4, 180, 1, 3, 154, 0, 30, 25, 5]
abbrev dktX1_widestGap_3 : List UInt8 := dkwX1_widestGap_3 ++ dktX1_widestGap_4
def dkwX1_widestGap_2 : List UInt8 := [180, 0, 213, 27, 182, 0, 253, 58, 4, 42, 182, 0, 162, 42, 182, 0, 162, 180, 0, 204, 29, 182, 0, 207]
abbrev dktX1_widestGap_2 : List UInt8 := dkwX1_widestGap_2 ++ dktX1_widestGap_3
def dkwX1_widestGap_1 : List UInt8 := [162, 0, 100, 42, 182, 0, 162, 42, 182, 0, 162, 180, 0, 204, 29, 4, 100, 182, 0, 207, 192, 0, 211]
abbrev dktX1_widestGap_1 : List UInt8 := dkwX1_widestGap_1 ++ dktX1_widestGap_2
def dkwX1_widestGap_0 : List UInt8 := [27, 3, 6, 184, 0, 96, 184, 0, 192, 3, 61, 4, 62, 29, 42, 182, 0, 162, 180, 0, 204, 182, 0, 199]
abbrev dktX1_widestGap_0 : List UInt8 := dkwX1_widestGap_0 ++ dktX1_widestGap_1
theorem dksX1_widestGap_0 : cX1_widestGap.data.toList.drop 0 = dktX1_widestGap_0 := by decide +kernel
theorem dksX1_widestGap_1 : cX1_widestGap.data.toList.drop 24 = dktX1_widestGap_1 := dk_seg dksX1_widestGap_0 24 rfl rfl
theorem dksX1_widestGap_2 : cX1_widestGap.data.toList.drop 47 = dktX1_widestGap_2 := dk_seg dksX1_widestGap_1 23 rfl rfl
theorem dksX1_widestGap_3 : cX1_widestGap.data.toList.drop 71 = dktX1_widestGap_3 := dk_seg dksX1_widestGap_2 24 rfl rfl
theorem dksX1_widestGap_4 : cX1_widestGap.data.toList.drop 93 = dktX1_widestGap_4 := dk_seg dksX1_widestGap_3 22 rfl rfl
theorem dksX1_widestGap_5 : cX1_widestGap.data.toList.drop 117 = dktX1_widestGap_5 := dk_seg dksX1_widestGap_4 24 rfl rfl
theorem dX1_widestGap_0 : decode cX1_widestGap 0 = .ok (.iload_n 1, 1) := dk_27 (dk_at dksX1_widestGap_0 0 rfl rfl)
theorem dX1_widestGap_1 : decode cX1_widestGap 1 = .ok (.iconst 0, 1) := dk_3 (dk_at dksX1_widestGap_0 1 rfl rfl)
theorem dX1_widestGap_2 : decode cX1_widestGap 2 = .ok (.iconst 3, 1) := dk_6 (dk_at dksX1_widestGap_0 2 rfl rfl)
theorem dX1_widestGap_3 : decode cX1_widestGap 3 = .ok (.invokestatic 96, 3) := dk_184 0 96 (dk_at dksX1_widestGap_0 3 rfl rfl)
theorem dX1_widestGap_6 : decode cX1_widestGap 6 = .ok (.invokestatic 192, 3) := dk_184 0 192 (dk_at dksX1_widestGap_0 6 rfl rfl)
theorem dX1_widestGap_9 : decode cX1_widestGap 9 = .ok (.iconst 0, 1) := dk_3 (dk_at dksX1_widestGap_0 9 rfl rfl)
theorem dX1_widestGap_10 : decode cX1_widestGap 10 = .ok (.istore_n 2, 1) := dk_61 (dk_at dksX1_widestGap_0 10 rfl rfl)
theorem dX1_widestGap_11 : decode cX1_widestGap 11 = .ok (.iconst 1, 1) := dk_4 (dk_at dksX1_widestGap_0 11 rfl rfl)
theorem dX1_widestGap_12 : decode cX1_widestGap 12 = .ok (.istore_n 3, 1) := dk_62 (dk_at dksX1_widestGap_0 12 rfl rfl)
theorem dX1_widestGap_13 : decode cX1_widestGap 13 = .ok (.iload_n 3, 1) := dk_29 (dk_at dksX1_widestGap_0 13 rfl rfl)
theorem dX1_widestGap_14 : decode cX1_widestGap 14 = .ok (.aload_n 0, 1) := dk_42 (dk_at dksX1_widestGap_0 14 rfl rfl)
theorem dX1_widestGap_15 : decode cX1_widestGap 15 = .ok (.invokevirtual 162, 3) := dk_182 0 162 (dk_at dksX1_widestGap_0 15 rfl rfl)
theorem dX1_widestGap_18 : decode cX1_widestGap 18 = .ok (.getfield 204, 3) := dk_180 0 204 (dk_at dksX1_widestGap_0 18 rfl rfl)
theorem dX1_widestGap_21 : decode cX1_widestGap 21 = .ok (.invokevirtual 199, 3) := dk_182 0 199 (dk_at dksX1_widestGap_0 21 rfl rfl)
theorem dX1_widestGap_24 : decode cX1_widestGap 24 = .ok (.if_icmp .ge 100, 3) := dk_162 0 100 (dk_at dksX1_widestGap_1 0 rfl rfl)
theorem dX1_widestGap_27 : decode cX1_widestGap 27 = .ok (.aload_n 0, 1) := dk_42 (dk_at dksX1_widestGap_1 3 rfl rfl)
theorem dX1_widestGap_28 : decode cX1_widestGap 28 = .ok (.invokevirtual 162, 3) := dk_182 0 162 (dk_at dksX1_widestGap_1 4 rfl rfl)
theorem dX1_widestGap_31 : decode cX1_widestGap 31 = .ok (.aload_n 0, 1) := dk_42 (dk_at dksX1_widestGap_1 7 rfl rfl)
theorem dX1_widestGap_32 : decode cX1_widestGap 32 = .ok (.invokevirtual 162, 3) := dk_182 0 162 (dk_at dksX1_widestGap_1 8 rfl rfl)
theorem dX1_widestGap_35 : decode cX1_widestGap 35 = .ok (.getfield 204, 3) := dk_180 0 204 (dk_at dksX1_widestGap_1 11 rfl rfl)
theorem dX1_widestGap_38 : decode cX1_widestGap 38 = .ok (.iload_n 3, 1) := dk_29 (dk_at dksX1_widestGap_1 14 rfl rfl)
theorem dX1_widestGap_39 : decode cX1_widestGap 39 = .ok (.iconst 1, 1) := dk_4 (dk_at dksX1_widestGap_1 15 rfl rfl)
theorem dX1_widestGap_40 : decode cX1_widestGap 40 = .ok (.isub, 1) := dk_100 (dk_at dksX1_widestGap_1 16 rfl rfl)
theorem dX1_widestGap_41 : decode cX1_widestGap 41 = .ok (.invokevirtual 207, 3) := dk_182 0 207 (dk_at dksX1_widestGap_1 17 rfl rfl)
theorem dX1_widestGap_44 : decode cX1_widestGap 44 = .ok (.checkcast 211, 3) := dk_192 0 211 (dk_at dksX1_widestGap_1 20 rfl rfl)
theorem dX1_widestGap_47 : decode cX1_widestGap 47 = .ok (.getfield 213, 3) := dk_180 0 213 (dk_at dksX1_widestGap_2 0 rfl rfl)
theorem dX1_widestGap_50 : decode cX1_widestGap 50 = .ok (.iload_n 1, 1) := dk_27 (dk_at dksX1_widestGap_2 3 rfl rfl)
theorem dX1_widestGap_51 : decode cX1_widestGap 51 = .ok (.invokevirtual 253, 3) := dk_182 0 253 (dk_at dksX1_widestGap_2 4 rfl rfl)
theorem dX1_widestGap_54 : decode cX1_widestGap 54 = .ok (.astore 4, 2) := dk_58 4 (dk_at dksX1_widestGap_2 7 rfl rfl)
theorem dX1_widestGap_56 : decode cX1_widestGap 56 = .ok (.aload_n 0, 1) := dk_42 (dk_at dksX1_widestGap_2 9 rfl rfl)
theorem dX1_widestGap_57 : decode cX1_widestGap 57 = .ok (.invokevirtual 162, 3) := dk_182 0 162 (dk_at dksX1_widestGap_2 10 rfl rfl)
theorem dX1_widestGap_60 : decode cX1_widestGap 60 = .ok (.aload_n 0, 1) := dk_42 (dk_at dksX1_widestGap_2 13 rfl rfl)
theorem dX1_widestGap_61 : decode cX1_widestGap 61 = .ok (.invokevirtual 162, 3) := dk_182 0 162 (dk_at dksX1_widestGap_2 14 rfl rfl)
theorem dX1_widestGap_64 : decode cX1_widestGap 64 = .ok (.getfield 204, 3) := dk_180 0 204 (dk_at dksX1_widestGap_2 17 rfl rfl)
theorem dX1_widestGap_67 : decode cX1_widestGap 67 = .ok (.iload_n 3, 1) := dk_29 (dk_at dksX1_widestGap_2 20 rfl rfl)
theorem dX1_widestGap_68 : decode cX1_widestGap 68 = .ok (.invokevirtual 207, 3) := dk_182 0 207 (dk_at dksX1_widestGap_2 21 rfl rfl)
theorem dX1_widestGap_71 : decode cX1_widestGap 71 = .ok (.checkcast 211, 3) := dk_192 0 211 (dk_at dksX1_widestGap_3 0 rfl rfl)
theorem dX1_widestGap_74 : decode cX1_widestGap 74 = .ok (.getfield 213, 3) := dk_180 0 213 (dk_at dksX1_widestGap_3 3 rfl rfl)
theorem dX1_widestGap_77 : decode cX1_widestGap 77 = .ok (.iload_n 1, 1) := dk_27 (dk_at dksX1_widestGap_3 6 rfl rfl)
theorem dX1_widestGap_78 : decode cX1_widestGap 78 = .ok (.invokevirtual 253, 3) := dk_182 0 253 (dk_at dksX1_widestGap_3 7 rfl rfl)
theorem dX1_widestGap_81 : decode cX1_widestGap 81 = .ok (.astore 5, 2) := dk_58 5 (dk_at dksX1_widestGap_3 10 rfl rfl)
theorem dX1_widestGap_83 : decode cX1_widestGap 83 = .ok (.aload 4, 2) := dk_25 4 (dk_at dksX1_widestGap_3 12 rfl rfl)
theorem dX1_widestGap_85 : decode cX1_widestGap 85 = .ok (.getfield 259, 3) := dk_180 1 3 (dk_at dksX1_widestGap_3 14 rfl rfl)
theorem dX1_widestGap_88 : decode cX1_widestGap 88 = .ok (.ifCond .ne 30, 3) := dk_154 0 30 (dk_at dksX1_widestGap_3 17 rfl rfl)
theorem dX1_widestGap_91 : decode cX1_widestGap 91 = .ok (.aload 5, 2) := dk_25 5 (dk_at dksX1_widestGap_3 20 rfl rfl)
theorem dX1_widestGap_93 : decode cX1_widestGap 93 = .ok (.getfield 259, 3) := dk_180 1 3 (dk_at dksX1_widestGap_4 0 rfl rfl)
theorem dX1_widestGap_96 : decode cX1_widestGap 96 = .ok (.ifCond .ne 22, 3) := dk_154 0 22 (dk_at dksX1_widestGap_4 3 rfl rfl)
theorem dX1_widestGap_99 : decode cX1_widestGap 99 = .ok (.iload_n 2, 1) := dk_28 (dk_at dksX1_widestGap_4 6 rfl rfl)
theorem dX1_widestGap_100 : decode cX1_widestGap 100 = .ok (.aload 4, 2) := dk_25 4 (dk_at dksX1_widestGap_4 7 rfl rfl)
theorem dX1_widestGap_102 : decode cX1_widestGap 102 = .ok (.getfield 248, 3) := dk_180 0 248 (dk_at dksX1_widestGap_4 9 rfl rfl)
theorem dX1_widestGap_105 : decode cX1_widestGap 105 = .ok (.aload 5, 2) := dk_25 5 (dk_at dksX1_widestGap_4 12 rfl rfl)
theorem dX1_widestGap_107 : decode cX1_widestGap 107 = .ok (.getfield 248, 3) := dk_180 0 248 (dk_at dksX1_widestGap_4 14 rfl rfl)
theorem dX1_widestGap_110 : decode cX1_widestGap 110 = .ok (.isub, 1) := dk_100 (dk_at dksX1_widestGap_4 17 rfl rfl)
theorem dX1_widestGap_111 : decode cX1_widestGap 111 = .ok (.invokestatic 263, 3) := dk_184 1 7 (dk_at dksX1_widestGap_4 18 rfl rfl)
theorem dX1_widestGap_114 : decode cX1_widestGap 114 = .ok (.invokestatic 268, 3) := dk_184 1 12 (dk_at dksX1_widestGap_4 21 rfl rfl)
theorem dX1_widestGap_117 : decode cX1_widestGap 117 = .ok (.istore_n 2, 1) := dk_61 (dk_at dksX1_widestGap_5 0 rfl rfl)
theorem dX1_widestGap_118 : decode cX1_widestGap 118 = .ok (.iinc 3 1, 3) := dk_132 3 1 (dk_at dksX1_widestGap_5 1 rfl rfl)
theorem dX1_widestGap_121 : decode cX1_widestGap 121 = .ok (.goto (-108), 3) := dk_167 255 148 (dk_at dksX1_widestGap_5 4 rfl rfl)
theorem dX1_widestGap_124 : decode cX1_widestGap 124 = .ok (.iload_n 2, 1) := dk_28 (dk_at dksX1_widestGap_5 7 rfl rfl)
theorem dX1_widestGap_125 : decode cX1_widestGap 125 = .ok (.ireturn, 1) := dk_172 (dk_at dksX1_widestGap_5 8 rfl rfl)
abbrev iX1_widestGap : xM := (yX1_widestGap, cX1_widestGap, 6, (some .int), [])
theorem mX1_widestGap : xOkM iX1_widestGap := ⟨by decide +kernel, by decide, q3304, q130⟩
abbrev cX1_isInTune : ByteArray := prog_1_method_42_code
def yX1_isInTune : MethodName := ⟨RX1, "isInTune", "(I)Z"⟩
def dkwX1_isInTune_0 : List UInt8 := [42, 182, 0, 162, 27, 182, 0, 216, 182, 1, 93, 172]
abbrev dktX1_isInTune_0 : List UInt8 := dkwX1_isInTune_0 ++ []
theorem dksX1_isInTune_0 : cX1_isInTune.data.toList.drop 0 = dktX1_isInTune_0 := by decide +kernel
theorem dX1_isInTune_0 : decode cX1_isInTune 0 = .ok (.aload_n 0, 1) := dk_42 (dk_at dksX1_isInTune_0 0 rfl rfl)
theorem dX1_isInTune_1 : decode cX1_isInTune 1 = .ok (.invokevirtual 162, 3) := dk_182 0 162 (dk_at dksX1_isInTune_0 1 rfl rfl)
theorem dX1_isInTune_4 : decode cX1_isInTune 4 = .ok (.iload_n 1, 1) := dk_27 (dk_at dksX1_isInTune_0 4 rfl rfl)
theorem dX1_isInTune_5 : decode cX1_isInTune 5 = .ok (.invokevirtual 216, 3) := dk_182 0 216 (dk_at dksX1_isInTune_0 5 rfl rfl)
theorem dX1_isInTune_8 : decode cX1_isInTune 8 = .ok (.invokevirtual 349, 3) := dk_182 1 93 (dk_at dksX1_isInTune_0 8 rfl rfl)
theorem dX1_isInTune_11 : decode cX1_isInTune 11 = .ok (.ireturn, 1) := dk_172 (dk_at dksX1_isInTune_0 11 rfl rfl)
abbrev iX1_isInTune : xM := (yX1_isInTune, cX1_isInTune, 2, (some .boolean), [])
theorem mX1_isInTune : xOkM iX1_isInTune := ⟨by decide +kernel, by decide, q3312, q130⟩
abbrev cX1_referenceOf : ByteArray := prog_1_method_43_code
def yX1_referenceOf : MethodName := ⟨RX1, "referenceOf", "(I)I"⟩
def dkwX1_referenceOf_0 : List UInt8 := [42, 182, 0, 162, 27, 182, 0, 216, 180, 1, 96, 172]
abbrev dktX1_referenceOf_0 : List UInt8 := dkwX1_referenceOf_0 ++ []
theorem dksX1_referenceOf_0 : cX1_referenceOf.data.toList.drop 0 = dktX1_referenceOf_0 := by decide +kernel
theorem dX1_referenceOf_0 : decode cX1_referenceOf 0 = .ok (.aload_n 0, 1) := dk_42 (dk_at dksX1_referenceOf_0 0 rfl rfl)
theorem dX1_referenceOf_1 : decode cX1_referenceOf 1 = .ok (.invokevirtual 162, 3) := dk_182 0 162 (dk_at dksX1_referenceOf_0 1 rfl rfl)
theorem dX1_referenceOf_4 : decode cX1_referenceOf 4 = .ok (.iload_n 1, 1) := dk_27 (dk_at dksX1_referenceOf_0 4 rfl rfl)
theorem dX1_referenceOf_5 : decode cX1_referenceOf 5 = .ok (.invokevirtual 216, 3) := dk_182 0 216 (dk_at dksX1_referenceOf_0 5 rfl rfl)
theorem dX1_referenceOf_8 : decode cX1_referenceOf 8 = .ok (.getfield 352, 3) := dk_180 1 96 (dk_at dksX1_referenceOf_0 8 rfl rfl)
theorem dX1_referenceOf_11 : decode cX1_referenceOf 11 = .ok (.ireturn, 1) := dk_172 (dk_at dksX1_referenceOf_0 11 rfl rfl)
abbrev iX1_referenceOf : xM := (yX1_referenceOf, cX1_referenceOf, 2, (some .int), [])
theorem mX1_referenceOf : xOkM iX1_referenceOf := ⟨by decide +kernel, by decide, q3319, q130⟩
abbrev cX1_chainLength : ByteArray := prog_1_method_44_code
def yX1_chainLength : MethodName := ⟨RX1, "chainLength", "(I)I"⟩
def dkwX1_chainLength_0 : List UInt8 := [42, 182, 0, 162, 27, 182, 0, 216, 180, 1, 99, 172]
abbrev dktX1_chainLength_0 : List UInt8 := dkwX1_chainLength_0 ++ []
theorem dksX1_chainLength_0 : cX1_chainLength.data.toList.drop 0 = dktX1_chainLength_0 := by decide +kernel
theorem dX1_chainLength_0 : decode cX1_chainLength 0 = .ok (.aload_n 0, 1) := dk_42 (dk_at dksX1_chainLength_0 0 rfl rfl)
theorem dX1_chainLength_1 : decode cX1_chainLength 1 = .ok (.invokevirtual 162, 3) := dk_182 0 162 (dk_at dksX1_chainLength_0 1 rfl rfl)
theorem dX1_chainLength_4 : decode cX1_chainLength 4 = .ok (.iload_n 1, 1) := dk_27 (dk_at dksX1_chainLength_0 4 rfl rfl)
theorem dX1_chainLength_5 : decode cX1_chainLength 5 = .ok (.invokevirtual 216, 3) := dk_182 0 216 (dk_at dksX1_chainLength_0 5 rfl rfl)
theorem dX1_chainLength_8 : decode cX1_chainLength 8 = .ok (.getfield 355, 3) := dk_180 1 99 (dk_at dksX1_chainLength_0 8 rfl rfl)
theorem dX1_chainLength_11 : decode cX1_chainLength 11 = .ok (.ireturn, 1) := dk_172 (dk_at dksX1_chainLength_0 11 rfl rfl)
abbrev iX1_chainLength : xM := (yX1_chainLength, cX1_chainLength, 2, (some .int), [])
theorem mX1_chainLength : xOkM iX1_chainLength := ⟨by decide +kernel, by decide, q3326, q130⟩
abbrev cX1_tunedDeviation : ByteArray := prog_1_method_45_code
def yX1_tunedDeviation : MethodName := ⟨RX1, "tunedDeviation", "(II)I"⟩
def dkwX1_tunedDeviation_1 : List UInt8 := [184, 0, 88, 45, 180, 1, 102, 28, 46, 172]
abbrev dktX1_tunedDeviation_1 : List UInt8 := dkwX1_tunedDeviation_1 ++ []
def dkwX1_tunedDeviation_0 : List UInt8 := [42, 182, 0, 162, 27, 182, 0, 216, 78, 28, 3, 6, 184, 0, 96, 184, 0, 192, 45, 182, 1, 93]
abbrev dktX1_tunedDeviation_0 : List UInt8 := dkwX1_tunedDeviation_0 ++ dktX1_tunedDeviation_1
theorem dksX1_tunedDeviation_0 : cX1_tunedDeviation.data.toList.drop 0 = dktX1_tunedDeviation_0 := by decide +kernel
theorem dksX1_tunedDeviation_1 : cX1_tunedDeviation.data.toList.drop 22 = dktX1_tunedDeviation_1 := dk_seg dksX1_tunedDeviation_0 22 rfl rfl
theorem dX1_tunedDeviation_0 : decode cX1_tunedDeviation 0 = .ok (.aload_n 0, 1) := dk_42 (dk_at dksX1_tunedDeviation_0 0 rfl rfl)
theorem dX1_tunedDeviation_1 : decode cX1_tunedDeviation 1 = .ok (.invokevirtual 162, 3) := dk_182 0 162 (dk_at dksX1_tunedDeviation_0 1 rfl rfl)
theorem dX1_tunedDeviation_4 : decode cX1_tunedDeviation 4 = .ok (.iload_n 1, 1) := dk_27 (dk_at dksX1_tunedDeviation_0 4 rfl rfl)
theorem dX1_tunedDeviation_5 : decode cX1_tunedDeviation 5 = .ok (.invokevirtual 216, 3) := dk_182 0 216 (dk_at dksX1_tunedDeviation_0 5 rfl rfl)
theorem dX1_tunedDeviation_8 : decode cX1_tunedDeviation 8 = .ok (.astore_n 3, 1) := dk_78 (dk_at dksX1_tunedDeviation_0 8 rfl rfl)
theorem dX1_tunedDeviation_9 : decode cX1_tunedDeviation 9 = .ok (.iload_n 2, 1) := dk_28 (dk_at dksX1_tunedDeviation_0 9 rfl rfl)
theorem dX1_tunedDeviation_10 : decode cX1_tunedDeviation 10 = .ok (.iconst 0, 1) := dk_3 (dk_at dksX1_tunedDeviation_0 10 rfl rfl)
theorem dX1_tunedDeviation_11 : decode cX1_tunedDeviation 11 = .ok (.iconst 3, 1) := dk_6 (dk_at dksX1_tunedDeviation_0 11 rfl rfl)
theorem dX1_tunedDeviation_12 : decode cX1_tunedDeviation 12 = .ok (.invokestatic 96, 3) := dk_184 0 96 (dk_at dksX1_tunedDeviation_0 12 rfl rfl)
theorem dX1_tunedDeviation_15 : decode cX1_tunedDeviation 15 = .ok (.invokestatic 192, 3) := dk_184 0 192 (dk_at dksX1_tunedDeviation_0 15 rfl rfl)
theorem dX1_tunedDeviation_18 : decode cX1_tunedDeviation 18 = .ok (.aload_n 3, 1) := dk_45 (dk_at dksX1_tunedDeviation_0 18 rfl rfl)
theorem dX1_tunedDeviation_19 : decode cX1_tunedDeviation 19 = .ok (.invokevirtual 349, 3) := dk_182 1 93 (dk_at dksX1_tunedDeviation_0 19 rfl rfl)
theorem dX1_tunedDeviation_22 : decode cX1_tunedDeviation 22 = .ok (.invokestatic 88, 3) := dk_184 0 88 (dk_at dksX1_tunedDeviation_1 0 rfl rfl)
theorem dX1_tunedDeviation_25 : decode cX1_tunedDeviation 25 = .ok (.aload_n 3, 1) := dk_45 (dk_at dksX1_tunedDeviation_1 3 rfl rfl)
theorem dX1_tunedDeviation_26 : decode cX1_tunedDeviation 26 = .ok (.getfield 358, 3) := dk_180 1 102 (dk_at dksX1_tunedDeviation_1 4 rfl rfl)
theorem dX1_tunedDeviation_29 : decode cX1_tunedDeviation 29 = .ok (.iload_n 2, 1) := dk_28 (dk_at dksX1_tunedDeviation_1 7 rfl rfl)
theorem dX1_tunedDeviation_30 : decode cX1_tunedDeviation 30 = .ok (.iaload, 1) := dk_46 (dk_at dksX1_tunedDeviation_1 8 rfl rfl)
theorem dX1_tunedDeviation_31 : decode cX1_tunedDeviation 31 = .ok (.ireturn, 1) := dk_172 (dk_at dksX1_tunedDeviation_1 9 rfl rfl)
abbrev iX1_tunedDeviation : xM := (yX1_tunedDeviation, cX1_tunedDeviation, 4, (some .int), [])
theorem mX1_tunedDeviation : xOkM iX1_tunedDeviation := ⟨by decide +kernel, by decide, q3333, q130⟩
abbrev cX1_obstacle : ByteArray := prog_1_method_50_code
def yX1_obstacle : MethodName := ⟨RX1, "obstacle", "(I)I"⟩
def dkwX1_obstacle_0 : List UInt8 := [42, 182, 0, 162, 27, 182, 0, 216, 77, 42, 182, 1, 122, 44, 180, 0, 213, 182, 0, 216, 180, 1, 125, 172]
abbrev dktX1_obstacle_0 : List UInt8 := dkwX1_obstacle_0 ++ []
theorem dksX1_obstacle_0 : cX1_obstacle.data.toList.drop 0 = dktX1_obstacle_0 := by decide +kernel
theorem dX1_obstacle_0 : decode cX1_obstacle 0 = .ok (.aload_n 0, 1) := dk_42 (dk_at dksX1_obstacle_0 0 rfl rfl)
theorem dX1_obstacle_1 : decode cX1_obstacle 1 = .ok (.invokevirtual 162, 3) := dk_182 0 162 (dk_at dksX1_obstacle_0 1 rfl rfl)
theorem dX1_obstacle_4 : decode cX1_obstacle 4 = .ok (.iload_n 1, 1) := dk_27 (dk_at dksX1_obstacle_0 4 rfl rfl)
theorem dX1_obstacle_5 : decode cX1_obstacle 5 = .ok (.invokevirtual 216, 3) := dk_182 0 216 (dk_at dksX1_obstacle_0 5 rfl rfl)
theorem dX1_obstacle_8 : decode cX1_obstacle 8 = .ok (.astore_n 2, 1) := dk_77 (dk_at dksX1_obstacle_0 8 rfl rfl)
theorem dX1_obstacle_9 : decode cX1_obstacle 9 = .ok (.aload_n 0, 1) := dk_42 (dk_at dksX1_obstacle_0 9 rfl rfl)
theorem dX1_obstacle_10 : decode cX1_obstacle 10 = .ok (.invokevirtual 378, 3) := dk_182 1 122 (dk_at dksX1_obstacle_0 10 rfl rfl)
theorem dX1_obstacle_13 : decode cX1_obstacle 13 = .ok (.aload_n 2, 1) := dk_44 (dk_at dksX1_obstacle_0 13 rfl rfl)
theorem dX1_obstacle_14 : decode cX1_obstacle 14 = .ok (.getfield 213, 3) := dk_180 0 213 (dk_at dksX1_obstacle_0 14 rfl rfl)
theorem dX1_obstacle_17 : decode cX1_obstacle 17 = .ok (.invokevirtual 216, 3) := dk_182 0 216 (dk_at dksX1_obstacle_0 17 rfl rfl)
theorem dX1_obstacle_20 : decode cX1_obstacle 20 = .ok (.getfield 381, 3) := dk_180 1 125 (dk_at dksX1_obstacle_0 20 rfl rfl)
theorem dX1_obstacle_23 : decode cX1_obstacle 23 = .ok (.ireturn, 1) := dk_172 (dk_at dksX1_obstacle_0 23 rfl rfl)
abbrev iX1_obstacle : xM := (yX1_obstacle, cX1_obstacle, 3, (some .int), [])
theorem mX1_obstacle : xOkM iX1_obstacle := ⟨by decide +kernel, by decide, q3340, q130⟩
abbrev cX1_nextReference : ByteArray := prog_1_method_51_code
def yX1_nextReference : MethodName := ⟨RX1, "nextReference", "(I)I"⟩
def dkwX1_nextReference_0 : List UInt8 := [42, 182, 0, 162, 27, 182, 0, 216, 77, 42, 182, 1, 122, 44, 180, 0, 213, 182, 0, 216, 180, 1, 96, 172]
abbrev dktX1_nextReference_0 : List UInt8 := dkwX1_nextReference_0 ++ []
theorem dksX1_nextReference_0 : cX1_nextReference.data.toList.drop 0 = dktX1_nextReference_0 := by decide +kernel
theorem dX1_nextReference_0 : decode cX1_nextReference 0 = .ok (.aload_n 0, 1) := dk_42 (dk_at dksX1_nextReference_0 0 rfl rfl)
theorem dX1_nextReference_1 : decode cX1_nextReference 1 = .ok (.invokevirtual 162, 3) := dk_182 0 162 (dk_at dksX1_nextReference_0 1 rfl rfl)
theorem dX1_nextReference_4 : decode cX1_nextReference 4 = .ok (.iload_n 1, 1) := dk_27 (dk_at dksX1_nextReference_0 4 rfl rfl)
theorem dX1_nextReference_5 : decode cX1_nextReference 5 = .ok (.invokevirtual 216, 3) := dk_182 0 216 (dk_at dksX1_nextReference_0 5 rfl rfl)
theorem dX1_nextReference_8 : decode cX1_nextReference 8 = .ok (.astore_n 2, 1) := dk_77 (dk_at dksX1_nextReference_0 8 rfl rfl)
theorem dX1_nextReference_9 : decode cX1_nextReference 9 = .ok (.aload_n 0, 1) := dk_42 (dk_at dksX1_nextReference_0 9 rfl rfl)
theorem dX1_nextReference_10 : decode cX1_nextReference 10 = .ok (.invokevirtual 378, 3) := dk_182 1 122 (dk_at dksX1_nextReference_0 10 rfl rfl)
theorem dX1_nextReference_13 : decode cX1_nextReference 13 = .ok (.aload_n 2, 1) := dk_44 (dk_at dksX1_nextReference_0 13 rfl rfl)
theorem dX1_nextReference_14 : decode cX1_nextReference 14 = .ok (.getfield 213, 3) := dk_180 0 213 (dk_at dksX1_nextReference_0 14 rfl rfl)
theorem dX1_nextReference_17 : decode cX1_nextReference 17 = .ok (.invokevirtual 216, 3) := dk_182 0 216 (dk_at dksX1_nextReference_0 17 rfl rfl)
theorem dX1_nextReference_20 : decode cX1_nextReference 20 = .ok (.getfield 352, 3) := dk_180 1 96 (dk_at dksX1_nextReference_0 20 rfl rfl)
theorem dX1_nextReference_23 : decode cX1_nextReference 23 = .ok (.ireturn, 1) := dk_172 (dk_at dksX1_nextReference_0 23 rfl rfl)
abbrev iX1_nextReference : xM := (yX1_nextReference, cX1_nextReference, 3, (some .int), [])
theorem mX1_nextReference : xOkM iX1_nextReference := ⟨by decide +kernel, by decide, q3347, q130⟩
abbrev cX1_deviationAfter : ByteArray := prog_1_method_63_code
def yX1_deviationAfter : MethodName := ⟨RX1, "deviationAfter", "(III)I"⟩
def dkwX1_deviationAfter_2 : List UInt8 := [180, 0, 248, 172]
abbrev dktX1_deviationAfter_2 : List UInt8 := dkwX1_deviationAfter_2 ++ []
def dkwX1_deviationAfter_1 : List UInt8 := [180, 1, 3, 154, 0, 7, 4, 167, 0, 4, 3, 184, 0, 88, 42, 29, 182, 1, 159, 27, 28, 182, 0, 253]
abbrev dktX1_deviationAfter_1 : List UInt8 := dkwX1_deviationAfter_1 ++ dktX1_deviationAfter_2
def dkwX1_deviationAfter_0 : List UInt8 := [42, 182, 0, 162, 27, 28, 182, 0, 253, 58, 4, 29, 3, 17, 0, 200, 184, 0, 96, 184, 0, 100, 25, 4]
abbrev dktX1_deviationAfter_0 : List UInt8 := dkwX1_deviationAfter_0 ++ dktX1_deviationAfter_1
theorem dksX1_deviationAfter_0 : cX1_deviationAfter.data.toList.drop 0 = dktX1_deviationAfter_0 := by decide +kernel
theorem dksX1_deviationAfter_1 : cX1_deviationAfter.data.toList.drop 24 = dktX1_deviationAfter_1 := dk_seg dksX1_deviationAfter_0 24 rfl rfl
theorem dksX1_deviationAfter_2 : cX1_deviationAfter.data.toList.drop 48 = dktX1_deviationAfter_2 := dk_seg dksX1_deviationAfter_1 24 rfl rfl
theorem dX1_deviationAfter_0 : decode cX1_deviationAfter 0 = .ok (.aload_n 0, 1) := dk_42 (dk_at dksX1_deviationAfter_0 0 rfl rfl)
theorem dX1_deviationAfter_1 : decode cX1_deviationAfter 1 = .ok (.invokevirtual 162, 3) := dk_182 0 162 (dk_at dksX1_deviationAfter_0 1 rfl rfl)
theorem dX1_deviationAfter_4 : decode cX1_deviationAfter 4 = .ok (.iload_n 1, 1) := dk_27 (dk_at dksX1_deviationAfter_0 4 rfl rfl)
theorem dX1_deviationAfter_5 : decode cX1_deviationAfter 5 = .ok (.iload_n 2, 1) := dk_28 (dk_at dksX1_deviationAfter_0 5 rfl rfl)
theorem dX1_deviationAfter_6 : decode cX1_deviationAfter 6 = .ok (.invokevirtual 253, 3) := dk_182 0 253 (dk_at dksX1_deviationAfter_0 6 rfl rfl)
theorem dX1_deviationAfter_9 : decode cX1_deviationAfter 9 = .ok (.astore 4, 2) := dk_58 4 (dk_at dksX1_deviationAfter_0 9 rfl rfl)
theorem dX1_deviationAfter_11 : decode cX1_deviationAfter 11 = .ok (.iload_n 3, 1) := dk_29 (dk_at dksX1_deviationAfter_0 11 rfl rfl)
theorem dX1_deviationAfter_12 : decode cX1_deviationAfter 12 = .ok (.iconst 0, 1) := dk_3 (dk_at dksX1_deviationAfter_0 12 rfl rfl)
theorem dX1_deviationAfter_13 : decode cX1_deviationAfter 13 = .ok (.sipush 200, 3) := dk_17 0 200 (dk_at dksX1_deviationAfter_0 13 rfl rfl)
theorem dX1_deviationAfter_16 : decode cX1_deviationAfter 16 = .ok (.invokestatic 96, 3) := dk_184 0 96 (dk_at dksX1_deviationAfter_0 16 rfl rfl)
theorem dX1_deviationAfter_19 : decode cX1_deviationAfter 19 = .ok (.invokestatic 100, 3) := dk_184 0 100 (dk_at dksX1_deviationAfter_0 19 rfl rfl)
theorem dX1_deviationAfter_22 : decode cX1_deviationAfter 22 = .ok (.aload 4, 2) := dk_25 4 (dk_at dksX1_deviationAfter_0 22 rfl rfl)
theorem dX1_deviationAfter_24 : decode cX1_deviationAfter 24 = .ok (.getfield 259, 3) := dk_180 1 3 (dk_at dksX1_deviationAfter_1 0 rfl rfl)
theorem dX1_deviationAfter_27 : decode cX1_deviationAfter 27 = .ok (.ifCond .ne 7, 3) := dk_154 0 7 (dk_at dksX1_deviationAfter_1 3 rfl rfl)
theorem dX1_deviationAfter_30 : decode cX1_deviationAfter 30 = .ok (.iconst 1, 1) := dk_4 (dk_at dksX1_deviationAfter_1 6 rfl rfl)
theorem dX1_deviationAfter_31 : decode cX1_deviationAfter 31 = .ok (.goto 4, 3) := dk_167 0 4 (dk_at dksX1_deviationAfter_1 7 rfl rfl)
theorem dX1_deviationAfter_34 : decode cX1_deviationAfter 34 = .ok (.iconst 0, 1) := dk_3 (dk_at dksX1_deviationAfter_1 10 rfl rfl)
theorem dX1_deviationAfter_35 : decode cX1_deviationAfter 35 = .ok (.invokestatic 88, 3) := dk_184 0 88 (dk_at dksX1_deviationAfter_1 11 rfl rfl)
theorem dX1_deviationAfter_38 : decode cX1_deviationAfter 38 = .ok (.aload_n 0, 1) := dk_42 (dk_at dksX1_deviationAfter_1 14 rfl rfl)
theorem dX1_deviationAfter_39 : decode cX1_deviationAfter 39 = .ok (.iload_n 3, 1) := dk_29 (dk_at dksX1_deviationAfter_1 15 rfl rfl)
theorem dX1_deviationAfter_40 : decode cX1_deviationAfter 40 = .ok (.invokevirtual 415, 3) := dk_182 1 159 (dk_at dksX1_deviationAfter_1 16 rfl rfl)
theorem dX1_deviationAfter_43 : decode cX1_deviationAfter 43 = .ok (.iload_n 1, 1) := dk_27 (dk_at dksX1_deviationAfter_1 19 rfl rfl)
theorem dX1_deviationAfter_44 : decode cX1_deviationAfter 44 = .ok (.iload_n 2, 1) := dk_28 (dk_at dksX1_deviationAfter_1 20 rfl rfl)
theorem dX1_deviationAfter_45 : decode cX1_deviationAfter 45 = .ok (.invokevirtual 253, 3) := dk_182 0 253 (dk_at dksX1_deviationAfter_1 21 rfl rfl)
theorem dX1_deviationAfter_48 : decode cX1_deviationAfter 48 = .ok (.getfield 248, 3) := dk_180 0 248 (dk_at dksX1_deviationAfter_2 0 rfl rfl)
theorem dX1_deviationAfter_51 : decode cX1_deviationAfter 51 = .ok (.ireturn, 1) := dk_172 (dk_at dksX1_deviationAfter_2 3 rfl rfl)
abbrev iX1_deviationAfter : xM := (yX1_deviationAfter, cX1_deviationAfter, 5, (some .int), [])
theorem mX1_deviationAfter : xOkM iX1_deviationAfter := ⟨by decide +kernel, by decide, q3354, q130⟩
abbrev cX1_hallAfter : ByteArray := prog_1_method_62_code
def yX1_hallAfter : MethodName := ⟨RX1, "hallAfter", "(I)LFiddleRow$Hall;"⟩
def dkwX1_hallAfter_1 : List UInt8 := [167, 255, 244, 44, 176]
abbrev dktX1_hallAfter_1 : List UInt8 := dkwX1_hallAfter_1 ++ []
def dkwX1_hallAfter_0 : List UInt8 := [42, 182, 0, 162, 182, 0, 165, 77, 3, 62, 29, 27, 162, 0, 13, 44, 182, 1, 156, 132, 3, 1]
abbrev dktX1_hallAfter_0 : List UInt8 := dkwX1_hallAfter_0 ++ dktX1_hallAfter_1
theorem dksX1_hallAfter_0 : cX1_hallAfter.data.toList.drop 0 = dktX1_hallAfter_0 := by decide +kernel
theorem dksX1_hallAfter_1 : cX1_hallAfter.data.toList.drop 22 = dktX1_hallAfter_1 := dk_seg dksX1_hallAfter_0 22 rfl rfl
theorem dX1_hallAfter_0 : decode cX1_hallAfter 0 = .ok (.aload_n 0, 1) := dk_42 (dk_at dksX1_hallAfter_0 0 rfl rfl)
theorem dX1_hallAfter_1 : decode cX1_hallAfter 1 = .ok (.invokevirtual 162, 3) := dk_182 0 162 (dk_at dksX1_hallAfter_0 1 rfl rfl)
theorem dX1_hallAfter_4 : decode cX1_hallAfter 4 = .ok (.invokevirtual 165, 3) := dk_182 0 165 (dk_at dksX1_hallAfter_0 4 rfl rfl)
theorem dX1_hallAfter_7 : decode cX1_hallAfter 7 = .ok (.astore_n 2, 1) := dk_77 (dk_at dksX1_hallAfter_0 7 rfl rfl)
theorem dX1_hallAfter_8 : decode cX1_hallAfter 8 = .ok (.iconst 0, 1) := dk_3 (dk_at dksX1_hallAfter_0 8 rfl rfl)
theorem dX1_hallAfter_9 : decode cX1_hallAfter 9 = .ok (.istore_n 3, 1) := dk_62 (dk_at dksX1_hallAfter_0 9 rfl rfl)
theorem dX1_hallAfter_10 : decode cX1_hallAfter 10 = .ok (.iload_n 3, 1) := dk_29 (dk_at dksX1_hallAfter_0 10 rfl rfl)
theorem dX1_hallAfter_11 : decode cX1_hallAfter 11 = .ok (.iload_n 1, 1) := dk_27 (dk_at dksX1_hallAfter_0 11 rfl rfl)
theorem dX1_hallAfter_12 : decode cX1_hallAfter 12 = .ok (.if_icmp .ge 13, 3) := dk_162 0 13 (dk_at dksX1_hallAfter_0 12 rfl rfl)
theorem dX1_hallAfter_15 : decode cX1_hallAfter 15 = .ok (.aload_n 2, 1) := dk_44 (dk_at dksX1_hallAfter_0 15 rfl rfl)
theorem dX1_hallAfter_16 : decode cX1_hallAfter 16 = .ok (.invokevirtual 412, 3) := dk_182 1 156 (dk_at dksX1_hallAfter_0 16 rfl rfl)
theorem dX1_hallAfter_19 : decode cX1_hallAfter 19 = .ok (.iinc 3 1, 3) := dk_132 3 1 (dk_at dksX1_hallAfter_0 19 rfl rfl)
theorem dX1_hallAfter_22 : decode cX1_hallAfter 22 = .ok (.goto (-12), 3) := dk_167 255 244 (dk_at dksX1_hallAfter_1 0 rfl rfl)
theorem dX1_hallAfter_25 : decode cX1_hallAfter 25 = .ok (.aload_n 2, 1) := dk_44 (dk_at dksX1_hallAfter_1 3 rfl rfl)
theorem dX1_hallAfter_26 : decode cX1_hallAfter 26 = .ok (.areturn, 1) := dk_176 (dk_at dksX1_hallAfter_1 4 rfl rfl)
abbrev iX1_hallAfter : xM := (yX1_hallAfter, cX1_hallAfter, 4, (some (.object "FiddleRow$Hall")), [])
theorem mX1_hallAfter : xOkM iX1_hallAfter := ⟨by decide +kernel, by decide, q3358, q130⟩
abbrev cX1_temperatureAfter : ByteArray := prog_1_method_64_code
def yX1_temperatureAfter : MethodName := ⟨RX1, "temperatureAfter", "(I)I"⟩
def dkwX1_temperatureAfter_0 : List UInt8 := [27, 3, 17, 0, 200, 184, 0, 96, 184, 0, 100, 42, 27, 182, 1, 159, 180, 0, 180, 172]
abbrev dktX1_temperatureAfter_0 : List UInt8 := dkwX1_temperatureAfter_0 ++ []
theorem dksX1_temperatureAfter_0 : cX1_temperatureAfter.data.toList.drop 0 = dktX1_temperatureAfter_0 := by decide +kernel
theorem dX1_temperatureAfter_0 : decode cX1_temperatureAfter 0 = .ok (.iload_n 1, 1) := dk_27 (dk_at dksX1_temperatureAfter_0 0 rfl rfl)
theorem dX1_temperatureAfter_1 : decode cX1_temperatureAfter 1 = .ok (.iconst 0, 1) := dk_3 (dk_at dksX1_temperatureAfter_0 1 rfl rfl)
theorem dX1_temperatureAfter_2 : decode cX1_temperatureAfter 2 = .ok (.sipush 200, 3) := dk_17 0 200 (dk_at dksX1_temperatureAfter_0 2 rfl rfl)
theorem dX1_temperatureAfter_5 : decode cX1_temperatureAfter 5 = .ok (.invokestatic 96, 3) := dk_184 0 96 (dk_at dksX1_temperatureAfter_0 5 rfl rfl)
theorem dX1_temperatureAfter_8 : decode cX1_temperatureAfter 8 = .ok (.invokestatic 100, 3) := dk_184 0 100 (dk_at dksX1_temperatureAfter_0 8 rfl rfl)
theorem dX1_temperatureAfter_11 : decode cX1_temperatureAfter 11 = .ok (.aload_n 0, 1) := dk_42 (dk_at dksX1_temperatureAfter_0 11 rfl rfl)
theorem dX1_temperatureAfter_12 : decode cX1_temperatureAfter 12 = .ok (.iload_n 1, 1) := dk_27 (dk_at dksX1_temperatureAfter_0 12 rfl rfl)
theorem dX1_temperatureAfter_13 : decode cX1_temperatureAfter 13 = .ok (.invokevirtual 415, 3) := dk_182 1 159 (dk_at dksX1_temperatureAfter_0 13 rfl rfl)
theorem dX1_temperatureAfter_16 : decode cX1_temperatureAfter 16 = .ok (.getfield 180, 3) := dk_180 0 180 (dk_at dksX1_temperatureAfter_0 16 rfl rfl)
theorem dX1_temperatureAfter_19 : decode cX1_temperatureAfter 19 = .ok (.ireturn, 1) := dk_172 (dk_at dksX1_temperatureAfter_0 19 rfl rfl)
abbrev iX1_temperatureAfter : xM := (yX1_temperatureAfter, cX1_temperatureAfter, 2, (some .int), [])
theorem mX1_temperatureAfter : xOkM iX1_temperatureAfter := ⟨by decide +kernel, by decide, q3366, q130⟩
abbrev cX1_hoursUntilOff : ByteArray := prog_1_method_66_code
def yX1_hoursUntilOff : MethodName := ⟨RX1, "hoursUntilOff", "(I)I"⟩
def dkwX1_hoursUntilOff_2 : List UInt8 := [132, 4, 1, 167, 255, 227, 2, 172]
abbrev dktX1_hoursUntilOff_2 : List UInt8 := dkwX1_hoursUntilOff_2 ++ []
def dkwX1_hoursUntilOff_1 : List UInt8 := [17, 0, 200, 163, 0, 27, 45, 44, 180, 0, 213, 184, 1, 163, 153, 0, 6, 21, 4, 172, 45, 182, 1, 156]
abbrev dktX1_hoursUntilOff_1 : List UInt8 := dkwX1_hoursUntilOff_1 ++ dktX1_hoursUntilOff_2
def dkwX1_hoursUntilOff_0 : List UInt8 := [42, 182, 0, 162, 27, 182, 0, 216, 77, 42, 182, 0, 162, 182, 0, 165, 78, 3, 54, 4, 21, 4]
abbrev dktX1_hoursUntilOff_0 : List UInt8 := dkwX1_hoursUntilOff_0 ++ dktX1_hoursUntilOff_1
theorem dksX1_hoursUntilOff_0 : cX1_hoursUntilOff.data.toList.drop 0 = dktX1_hoursUntilOff_0 := by decide +kernel
theorem dksX1_hoursUntilOff_1 : cX1_hoursUntilOff.data.toList.drop 22 = dktX1_hoursUntilOff_1 := dk_seg dksX1_hoursUntilOff_0 22 rfl rfl
theorem dksX1_hoursUntilOff_2 : cX1_hoursUntilOff.data.toList.drop 46 = dktX1_hoursUntilOff_2 := dk_seg dksX1_hoursUntilOff_1 24 rfl rfl
theorem dX1_hoursUntilOff_0 : decode cX1_hoursUntilOff 0 = .ok (.aload_n 0, 1) := dk_42 (dk_at dksX1_hoursUntilOff_0 0 rfl rfl)
theorem dX1_hoursUntilOff_1 : decode cX1_hoursUntilOff 1 = .ok (.invokevirtual 162, 3) := dk_182 0 162 (dk_at dksX1_hoursUntilOff_0 1 rfl rfl)
theorem dX1_hoursUntilOff_4 : decode cX1_hoursUntilOff 4 = .ok (.iload_n 1, 1) := dk_27 (dk_at dksX1_hoursUntilOff_0 4 rfl rfl)
theorem dX1_hoursUntilOff_5 : decode cX1_hoursUntilOff 5 = .ok (.invokevirtual 216, 3) := dk_182 0 216 (dk_at dksX1_hoursUntilOff_0 5 rfl rfl)
theorem dX1_hoursUntilOff_8 : decode cX1_hoursUntilOff 8 = .ok (.astore_n 2, 1) := dk_77 (dk_at dksX1_hoursUntilOff_0 8 rfl rfl)
theorem dX1_hoursUntilOff_9 : decode cX1_hoursUntilOff 9 = .ok (.aload_n 0, 1) := dk_42 (dk_at dksX1_hoursUntilOff_0 9 rfl rfl)
theorem dX1_hoursUntilOff_10 : decode cX1_hoursUntilOff 10 = .ok (.invokevirtual 162, 3) := dk_182 0 162 (dk_at dksX1_hoursUntilOff_0 10 rfl rfl)
theorem dX1_hoursUntilOff_13 : decode cX1_hoursUntilOff 13 = .ok (.invokevirtual 165, 3) := dk_182 0 165 (dk_at dksX1_hoursUntilOff_0 13 rfl rfl)
theorem dX1_hoursUntilOff_16 : decode cX1_hoursUntilOff 16 = .ok (.astore_n 3, 1) := dk_78 (dk_at dksX1_hoursUntilOff_0 16 rfl rfl)
theorem dX1_hoursUntilOff_17 : decode cX1_hoursUntilOff 17 = .ok (.iconst 0, 1) := dk_3 (dk_at dksX1_hoursUntilOff_0 17 rfl rfl)
theorem dX1_hoursUntilOff_18 : decode cX1_hoursUntilOff 18 = .ok (.istore 4, 2) := dk_54 4 (dk_at dksX1_hoursUntilOff_0 18 rfl rfl)
theorem dX1_hoursUntilOff_20 : decode cX1_hoursUntilOff 20 = .ok (.iload 4, 2) := dk_21 4 (dk_at dksX1_hoursUntilOff_0 20 rfl rfl)
theorem dX1_hoursUntilOff_22 : decode cX1_hoursUntilOff 22 = .ok (.sipush 200, 3) := dk_17 0 200 (dk_at dksX1_hoursUntilOff_1 0 rfl rfl)
theorem dX1_hoursUntilOff_25 : decode cX1_hoursUntilOff 25 = .ok (.if_icmp .gt 27, 3) := dk_163 0 27 (dk_at dksX1_hoursUntilOff_1 3 rfl rfl)
theorem dX1_hoursUntilOff_28 : decode cX1_hoursUntilOff 28 = .ok (.aload_n 3, 1) := dk_45 (dk_at dksX1_hoursUntilOff_1 6 rfl rfl)
theorem dX1_hoursUntilOff_29 : decode cX1_hoursUntilOff 29 = .ok (.aload_n 2, 1) := dk_44 (dk_at dksX1_hoursUntilOff_1 7 rfl rfl)
theorem dX1_hoursUntilOff_30 : decode cX1_hoursUntilOff 30 = .ok (.getfield 213, 3) := dk_180 0 213 (dk_at dksX1_hoursUntilOff_1 8 rfl rfl)
theorem dX1_hoursUntilOff_33 : decode cX1_hoursUntilOff 33 = .ok (.invokestatic 419, 3) := dk_184 1 163 (dk_at dksX1_hoursUntilOff_1 11 rfl rfl)
theorem dX1_hoursUntilOff_36 : decode cX1_hoursUntilOff 36 = .ok (.ifCond .eq 6, 3) := dk_153 0 6 (dk_at dksX1_hoursUntilOff_1 14 rfl rfl)
theorem dX1_hoursUntilOff_39 : decode cX1_hoursUntilOff 39 = .ok (.iload 4, 2) := dk_21 4 (dk_at dksX1_hoursUntilOff_1 17 rfl rfl)
theorem dX1_hoursUntilOff_41 : decode cX1_hoursUntilOff 41 = .ok (.ireturn, 1) := dk_172 (dk_at dksX1_hoursUntilOff_1 19 rfl rfl)
theorem dX1_hoursUntilOff_42 : decode cX1_hoursUntilOff 42 = .ok (.aload_n 3, 1) := dk_45 (dk_at dksX1_hoursUntilOff_1 20 rfl rfl)
theorem dX1_hoursUntilOff_43 : decode cX1_hoursUntilOff 43 = .ok (.invokevirtual 412, 3) := dk_182 1 156 (dk_at dksX1_hoursUntilOff_1 21 rfl rfl)
theorem dX1_hoursUntilOff_46 : decode cX1_hoursUntilOff 46 = .ok (.iinc 4 1, 3) := dk_132 4 1 (dk_at dksX1_hoursUntilOff_2 0 rfl rfl)
theorem dX1_hoursUntilOff_49 : decode cX1_hoursUntilOff 49 = .ok (.goto (-29), 3) := dk_167 255 227 (dk_at dksX1_hoursUntilOff_2 3 rfl rfl)
theorem dX1_hoursUntilOff_52 : decode cX1_hoursUntilOff 52 = .ok (.iconst (-1), 1) := dk_2 (dk_at dksX1_hoursUntilOff_2 6 rfl rfl)
theorem dX1_hoursUntilOff_53 : decode cX1_hoursUntilOff 53 = .ok (.ireturn, 1) := dk_172 (dk_at dksX1_hoursUntilOff_2 7 rfl rfl)
abbrev iX1_hoursUntilOff : xM := (yX1_hoursUntilOff, cX1_hoursUntilOff, 5, (some .int), [])
theorem mX1_hoursUntilOff : xOkM iX1_hoursUntilOff := ⟨by decide +kernel, by decide, q3373, q130⟩
abbrev cX1_isOff : ByteArray := prog_1_method_65_code
def yX1_isOff : MethodName := ⟨RX1, "isOff", "(LFiddleRow$Hall;I)Z"⟩
def dkwX1_isOff_1 : List UInt8 := [180, 0, 248, 184, 1, 7, 5, 164, 0, 5, 4, 172, 132, 2, 1, 167, 255, 221, 3, 172]
abbrev dktX1_isOff_1 : List UInt8 := dkwX1_isOff_1 ++ []
def dkwX1_isOff_0 : List UInt8 := [3, 61, 28, 7, 162, 0, 36, 42, 27, 28, 182, 0, 253, 78, 45, 180, 1, 3, 154, 0, 16, 45]
abbrev dktX1_isOff_0 : List UInt8 := dkwX1_isOff_0 ++ dktX1_isOff_1
theorem dksX1_isOff_0 : cX1_isOff.data.toList.drop 0 = dktX1_isOff_0 := by decide +kernel
theorem dksX1_isOff_1 : cX1_isOff.data.toList.drop 22 = dktX1_isOff_1 := dk_seg dksX1_isOff_0 22 rfl rfl
theorem dX1_isOff_0 : decode cX1_isOff 0 = .ok (.iconst 0, 1) := dk_3 (dk_at dksX1_isOff_0 0 rfl rfl)
theorem dX1_isOff_1 : decode cX1_isOff 1 = .ok (.istore_n 2, 1) := dk_61 (dk_at dksX1_isOff_0 1 rfl rfl)
theorem dX1_isOff_2 : decode cX1_isOff 2 = .ok (.iload_n 2, 1) := dk_28 (dk_at dksX1_isOff_0 2 rfl rfl)
theorem dX1_isOff_3 : decode cX1_isOff 3 = .ok (.iconst 4, 1) := dk_7 (dk_at dksX1_isOff_0 3 rfl rfl)
theorem dX1_isOff_4 : decode cX1_isOff 4 = .ok (.if_icmp .ge 36, 3) := dk_162 0 36 (dk_at dksX1_isOff_0 4 rfl rfl)
theorem dX1_isOff_7 : decode cX1_isOff 7 = .ok (.aload_n 0, 1) := dk_42 (dk_at dksX1_isOff_0 7 rfl rfl)
theorem dX1_isOff_8 : decode cX1_isOff 8 = .ok (.iload_n 1, 1) := dk_27 (dk_at dksX1_isOff_0 8 rfl rfl)
theorem dX1_isOff_9 : decode cX1_isOff 9 = .ok (.iload_n 2, 1) := dk_28 (dk_at dksX1_isOff_0 9 rfl rfl)
theorem dX1_isOff_10 : decode cX1_isOff 10 = .ok (.invokevirtual 253, 3) := dk_182 0 253 (dk_at dksX1_isOff_0 10 rfl rfl)
theorem dX1_isOff_13 : decode cX1_isOff 13 = .ok (.astore_n 3, 1) := dk_78 (dk_at dksX1_isOff_0 13 rfl rfl)
theorem dX1_isOff_14 : decode cX1_isOff 14 = .ok (.aload_n 3, 1) := dk_45 (dk_at dksX1_isOff_0 14 rfl rfl)
theorem dX1_isOff_15 : decode cX1_isOff 15 = .ok (.getfield 259, 3) := dk_180 1 3 (dk_at dksX1_isOff_0 15 rfl rfl)
theorem dX1_isOff_18 : decode cX1_isOff 18 = .ok (.ifCond .ne 16, 3) := dk_154 0 16 (dk_at dksX1_isOff_0 18 rfl rfl)
theorem dX1_isOff_21 : decode cX1_isOff 21 = .ok (.aload_n 3, 1) := dk_45 (dk_at dksX1_isOff_0 21 rfl rfl)
theorem dX1_isOff_22 : decode cX1_isOff 22 = .ok (.getfield 248, 3) := dk_180 0 248 (dk_at dksX1_isOff_1 0 rfl rfl)
theorem dX1_isOff_25 : decode cX1_isOff 25 = .ok (.invokestatic 263, 3) := dk_184 1 7 (dk_at dksX1_isOff_1 3 rfl rfl)
theorem dX1_isOff_28 : decode cX1_isOff 28 = .ok (.iconst 2, 1) := dk_5 (dk_at dksX1_isOff_1 6 rfl rfl)
theorem dX1_isOff_29 : decode cX1_isOff 29 = .ok (.if_icmp .le 5, 3) := dk_164 0 5 (dk_at dksX1_isOff_1 7 rfl rfl)
theorem dX1_isOff_32 : decode cX1_isOff 32 = .ok (.iconst 1, 1) := dk_4 (dk_at dksX1_isOff_1 10 rfl rfl)
theorem dX1_isOff_33 : decode cX1_isOff 33 = .ok (.ireturn, 1) := dk_172 (dk_at dksX1_isOff_1 11 rfl rfl)
theorem dX1_isOff_34 : decode cX1_isOff 34 = .ok (.iinc 2 1, 3) := dk_132 2 1 (dk_at dksX1_isOff_1 12 rfl rfl)
theorem dX1_isOff_37 : decode cX1_isOff 37 = .ok (.goto (-35), 3) := dk_167 255 221 (dk_at dksX1_isOff_1 15 rfl rfl)
theorem dX1_isOff_40 : decode cX1_isOff 40 = .ok (.iconst 0, 1) := dk_3 (dk_at dksX1_isOff_1 18 rfl rfl)
theorem dX1_isOff_41 : decode cX1_isOff 41 = .ok (.ireturn, 1) := dk_172 (dk_at dksX1_isOff_1 19 rfl rfl)
abbrev iX1_isOff : xM := (yX1_isOff, cX1_isOff, 4, (some .boolean), [])
theorem mX1_isOff : xOkM iX1_isOff := ⟨by decide +kernel, by decide, q3376, q130⟩
abbrev cX1_turnPeg : ByteArray := prog_1_method_69_code
def yX1_turnPeg : MethodName := ⟨RX1, "turnPeg", "(III)I"⟩
def dkwX1_turnPeg_0 : List UInt8 := [42, 182, 0, 162, 182, 0, 165, 58, 4, 42, 25, 4, 25, 4, 27, 28, 29, 182, 1, 170, 182, 1, 167, 172]
abbrev dktX1_turnPeg_0 : List UInt8 := dkwX1_turnPeg_0 ++ []
theorem dksX1_turnPeg_0 : cX1_turnPeg.data.toList.drop 0 = dktX1_turnPeg_0 := by decide +kernel
theorem dX1_turnPeg_0 : decode cX1_turnPeg 0 = .ok (.aload_n 0, 1) := dk_42 (dk_at dksX1_turnPeg_0 0 rfl rfl)
theorem dX1_turnPeg_1 : decode cX1_turnPeg 1 = .ok (.invokevirtual 162, 3) := dk_182 0 162 (dk_at dksX1_turnPeg_0 1 rfl rfl)
theorem dX1_turnPeg_4 : decode cX1_turnPeg 4 = .ok (.invokevirtual 165, 3) := dk_182 0 165 (dk_at dksX1_turnPeg_0 4 rfl rfl)
theorem dX1_turnPeg_7 : decode cX1_turnPeg 7 = .ok (.astore 4, 2) := dk_58 4 (dk_at dksX1_turnPeg_0 7 rfl rfl)
theorem dX1_turnPeg_9 : decode cX1_turnPeg 9 = .ok (.aload_n 0, 1) := dk_42 (dk_at dksX1_turnPeg_0 9 rfl rfl)
theorem dX1_turnPeg_10 : decode cX1_turnPeg 10 = .ok (.aload 4, 2) := dk_25 4 (dk_at dksX1_turnPeg_0 10 rfl rfl)
theorem dX1_turnPeg_12 : decode cX1_turnPeg 12 = .ok (.aload 4, 2) := dk_25 4 (dk_at dksX1_turnPeg_0 12 rfl rfl)
theorem dX1_turnPeg_14 : decode cX1_turnPeg 14 = .ok (.iload_n 1, 1) := dk_27 (dk_at dksX1_turnPeg_0 14 rfl rfl)
theorem dX1_turnPeg_15 : decode cX1_turnPeg 15 = .ok (.iload_n 2, 1) := dk_28 (dk_at dksX1_turnPeg_0 15 rfl rfl)
theorem dX1_turnPeg_16 : decode cX1_turnPeg 16 = .ok (.iload_n 3, 1) := dk_29 (dk_at dksX1_turnPeg_0 16 rfl rfl)
theorem dX1_turnPeg_17 : decode cX1_turnPeg 17 = .ok (.invokevirtual 426, 3) := dk_182 1 170 (dk_at dksX1_turnPeg_0 17 rfl rfl)
theorem dX1_turnPeg_20 : decode cX1_turnPeg 20 = .ok (.invokevirtual 423, 3) := dk_182 1 167 (dk_at dksX1_turnPeg_0 20 rfl rfl)
theorem dX1_turnPeg_23 : decode cX1_turnPeg 23 = .ok (.ireturn, 1) := dk_172 (dk_at dksX1_turnPeg_0 23 rfl rfl)
abbrev iX1_turnPeg : xM := (yX1_turnPeg, cX1_turnPeg, 5, (some .int), [])
theorem mX1_turnPeg : xOkM iX1_turnPeg := ⟨by decide +kernel, by decide, q3383, q130⟩
abbrev cX1_chalkPeg : ByteArray := prog_1_method_70_code
def yX1_chalkPeg : MethodName := ⟨RX1, "chalkPeg", "(II)I"⟩
def dkwX1_chalkPeg_0 : List UInt8 := [42, 182, 0, 162, 182, 0, 165, 78, 42, 45, 45, 27, 28, 182, 1, 173, 182, 1, 167, 172]
abbrev dktX1_chalkPeg_0 : List UInt8 := dkwX1_chalkPeg_0 ++ []
theorem dksX1_chalkPeg_0 : cX1_chalkPeg.data.toList.drop 0 = dktX1_chalkPeg_0 := by decide +kernel
theorem dX1_chalkPeg_0 : decode cX1_chalkPeg 0 = .ok (.aload_n 0, 1) := dk_42 (dk_at dksX1_chalkPeg_0 0 rfl rfl)
theorem dX1_chalkPeg_1 : decode cX1_chalkPeg 1 = .ok (.invokevirtual 162, 3) := dk_182 0 162 (dk_at dksX1_chalkPeg_0 1 rfl rfl)
theorem dX1_chalkPeg_4 : decode cX1_chalkPeg 4 = .ok (.invokevirtual 165, 3) := dk_182 0 165 (dk_at dksX1_chalkPeg_0 4 rfl rfl)
theorem dX1_chalkPeg_7 : decode cX1_chalkPeg 7 = .ok (.astore_n 3, 1) := dk_78 (dk_at dksX1_chalkPeg_0 7 rfl rfl)
theorem dX1_chalkPeg_8 : decode cX1_chalkPeg 8 = .ok (.aload_n 0, 1) := dk_42 (dk_at dksX1_chalkPeg_0 8 rfl rfl)
theorem dX1_chalkPeg_9 : decode cX1_chalkPeg 9 = .ok (.aload_n 3, 1) := dk_45 (dk_at dksX1_chalkPeg_0 9 rfl rfl)
theorem dX1_chalkPeg_10 : decode cX1_chalkPeg 10 = .ok (.aload_n 3, 1) := dk_45 (dk_at dksX1_chalkPeg_0 10 rfl rfl)
theorem dX1_chalkPeg_11 : decode cX1_chalkPeg 11 = .ok (.iload_n 1, 1) := dk_27 (dk_at dksX1_chalkPeg_0 11 rfl rfl)
theorem dX1_chalkPeg_12 : decode cX1_chalkPeg 12 = .ok (.iload_n 2, 1) := dk_28 (dk_at dksX1_chalkPeg_0 12 rfl rfl)
theorem dX1_chalkPeg_13 : decode cX1_chalkPeg 13 = .ok (.invokevirtual 429, 3) := dk_182 1 173 (dk_at dksX1_chalkPeg_0 13 rfl rfl)
theorem dX1_chalkPeg_16 : decode cX1_chalkPeg 16 = .ok (.invokevirtual 423, 3) := dk_182 1 167 (dk_at dksX1_chalkPeg_0 16 rfl rfl)
theorem dX1_chalkPeg_19 : decode cX1_chalkPeg 19 = .ok (.ireturn, 1) := dk_172 (dk_at dksX1_chalkPeg_0 19 rfl rfl)
abbrev iX1_chalkPeg : xM := (yX1_chalkPeg, cX1_chalkPeg, 4, (some .int), [])
theorem mX1_chalkPeg : xOkM iX1_chalkPeg := ⟨by decide +kernel, by decide, q3391, q130⟩
abbrev cX1_replaceString : ByteArray := prog_1_method_71_code
def yX1_replaceString : MethodName := ⟨RX1, "replaceString", "(II)I"⟩
def dkwX1_replaceString_0 : List UInt8 := [42, 182, 0, 162, 182, 0, 165, 78, 42, 45, 45, 27, 28, 182, 1, 176, 182, 1, 167, 172]
abbrev dktX1_replaceString_0 : List UInt8 := dkwX1_replaceString_0 ++ []
theorem dksX1_replaceString_0 : cX1_replaceString.data.toList.drop 0 = dktX1_replaceString_0 := by decide +kernel
theorem dX1_replaceString_0 : decode cX1_replaceString 0 = .ok (.aload_n 0, 1) := dk_42 (dk_at dksX1_replaceString_0 0 rfl rfl)
theorem dX1_replaceString_1 : decode cX1_replaceString 1 = .ok (.invokevirtual 162, 3) := dk_182 0 162 (dk_at dksX1_replaceString_0 1 rfl rfl)
theorem dX1_replaceString_4 : decode cX1_replaceString 4 = .ok (.invokevirtual 165, 3) := dk_182 0 165 (dk_at dksX1_replaceString_0 4 rfl rfl)
theorem dX1_replaceString_7 : decode cX1_replaceString 7 = .ok (.astore_n 3, 1) := dk_78 (dk_at dksX1_replaceString_0 7 rfl rfl)
theorem dX1_replaceString_8 : decode cX1_replaceString 8 = .ok (.aload_n 0, 1) := dk_42 (dk_at dksX1_replaceString_0 8 rfl rfl)
theorem dX1_replaceString_9 : decode cX1_replaceString 9 = .ok (.aload_n 3, 1) := dk_45 (dk_at dksX1_replaceString_0 9 rfl rfl)
theorem dX1_replaceString_10 : decode cX1_replaceString 10 = .ok (.aload_n 3, 1) := dk_45 (dk_at dksX1_replaceString_0 10 rfl rfl)
theorem dX1_replaceString_11 : decode cX1_replaceString 11 = .ok (.iload_n 1, 1) := dk_27 (dk_at dksX1_replaceString_0 11 rfl rfl)
theorem dX1_replaceString_12 : decode cX1_replaceString 12 = .ok (.iload_n 2, 1) := dk_28 (dk_at dksX1_replaceString_0 12 rfl rfl)
theorem dX1_replaceString_13 : decode cX1_replaceString 13 = .ok (.invokevirtual 432, 3) := dk_182 1 176 (dk_at dksX1_replaceString_0 13 rfl rfl)
theorem dX1_replaceString_16 : decode cX1_replaceString 16 = .ok (.invokevirtual 423, 3) := dk_182 1 167 (dk_at dksX1_replaceString_0 16 rfl rfl)
theorem dX1_replaceString_19 : decode cX1_replaceString 19 = .ok (.ireturn, 1) := dk_172 (dk_at dksX1_replaceString_0 19 rfl rfl)
abbrev iX1_replaceString : xM := (yX1_replaceString, cX1_replaceString, 4, (some .int), [])
theorem mX1_replaceString : xOkM iX1_replaceString := ⟨by decide +kernel, by decide, q3399, q130⟩
abbrev cX1_swapPlaces : ByteArray := prog_1_method_72_code
def yX1_swapPlaces : MethodName := ⟨RX1, "swapPlaces", "(II)I"⟩
def dkwX1_swapPlaces_0 : List UInt8 := [42, 182, 0, 162, 182, 0, 165, 78, 42, 45, 45, 27, 28, 182, 1, 179, 182, 1, 167, 172]
abbrev dktX1_swapPlaces_0 : List UInt8 := dkwX1_swapPlaces_0 ++ []
theorem dksX1_swapPlaces_0 : cX1_swapPlaces.data.toList.drop 0 = dktX1_swapPlaces_0 := by decide +kernel
theorem dX1_swapPlaces_0 : decode cX1_swapPlaces 0 = .ok (.aload_n 0, 1) := dk_42 (dk_at dksX1_swapPlaces_0 0 rfl rfl)
theorem dX1_swapPlaces_1 : decode cX1_swapPlaces 1 = .ok (.invokevirtual 162, 3) := dk_182 0 162 (dk_at dksX1_swapPlaces_0 1 rfl rfl)
theorem dX1_swapPlaces_4 : decode cX1_swapPlaces 4 = .ok (.invokevirtual 165, 3) := dk_182 0 165 (dk_at dksX1_swapPlaces_0 4 rfl rfl)
theorem dX1_swapPlaces_7 : decode cX1_swapPlaces 7 = .ok (.astore_n 3, 1) := dk_78 (dk_at dksX1_swapPlaces_0 7 rfl rfl)
theorem dX1_swapPlaces_8 : decode cX1_swapPlaces 8 = .ok (.aload_n 0, 1) := dk_42 (dk_at dksX1_swapPlaces_0 8 rfl rfl)
theorem dX1_swapPlaces_9 : decode cX1_swapPlaces 9 = .ok (.aload_n 3, 1) := dk_45 (dk_at dksX1_swapPlaces_0 9 rfl rfl)
theorem dX1_swapPlaces_10 : decode cX1_swapPlaces 10 = .ok (.aload_n 3, 1) := dk_45 (dk_at dksX1_swapPlaces_0 10 rfl rfl)
theorem dX1_swapPlaces_11 : decode cX1_swapPlaces 11 = .ok (.iload_n 1, 1) := dk_27 (dk_at dksX1_swapPlaces_0 11 rfl rfl)
theorem dX1_swapPlaces_12 : decode cX1_swapPlaces 12 = .ok (.iload_n 2, 1) := dk_28 (dk_at dksX1_swapPlaces_0 12 rfl rfl)
theorem dX1_swapPlaces_13 : decode cX1_swapPlaces 13 = .ok (.invokevirtual 435, 3) := dk_182 1 179 (dk_at dksX1_swapPlaces_0 13 rfl rfl)
theorem dX1_swapPlaces_16 : decode cX1_swapPlaces 16 = .ok (.invokevirtual 423, 3) := dk_182 1 167 (dk_at dksX1_swapPlaces_0 16 rfl rfl)
theorem dX1_swapPlaces_19 : decode cX1_swapPlaces 19 = .ok (.ireturn, 1) := dk_172 (dk_at dksX1_swapPlaces_0 19 rfl rfl)
abbrev iX1_swapPlaces : xM := (yX1_swapPlaces, cX1_swapPlaces, 4, (some .int), [])
theorem mX1_swapPlaces : xOkM iX1_swapPlaces := ⟨by decide +kernel, by decide, q3407, q130⟩
abbrev cX1_leaveRow : ByteArray := prog_1_method_73_code
def yX1_leaveRow : MethodName := ⟨RX1, "leaveRow", "(I)I"⟩
def dkwX1_leaveRow_0 : List UInt8 := [42, 182, 0, 162, 182, 0, 165, 77, 42, 44, 44, 27, 182, 1, 182, 182, 1, 167, 172]
abbrev dktX1_leaveRow_0 : List UInt8 := dkwX1_leaveRow_0 ++ []
theorem dksX1_leaveRow_0 : cX1_leaveRow.data.toList.drop 0 = dktX1_leaveRow_0 := by decide +kernel
theorem dX1_leaveRow_0 : decode cX1_leaveRow 0 = .ok (.aload_n 0, 1) := dk_42 (dk_at dksX1_leaveRow_0 0 rfl rfl)
theorem dX1_leaveRow_1 : decode cX1_leaveRow 1 = .ok (.invokevirtual 162, 3) := dk_182 0 162 (dk_at dksX1_leaveRow_0 1 rfl rfl)
theorem dX1_leaveRow_4 : decode cX1_leaveRow 4 = .ok (.invokevirtual 165, 3) := dk_182 0 165 (dk_at dksX1_leaveRow_0 4 rfl rfl)
theorem dX1_leaveRow_7 : decode cX1_leaveRow 7 = .ok (.astore_n 2, 1) := dk_77 (dk_at dksX1_leaveRow_0 7 rfl rfl)
theorem dX1_leaveRow_8 : decode cX1_leaveRow 8 = .ok (.aload_n 0, 1) := dk_42 (dk_at dksX1_leaveRow_0 8 rfl rfl)
theorem dX1_leaveRow_9 : decode cX1_leaveRow 9 = .ok (.aload_n 2, 1) := dk_44 (dk_at dksX1_leaveRow_0 9 rfl rfl)
theorem dX1_leaveRow_10 : decode cX1_leaveRow 10 = .ok (.aload_n 2, 1) := dk_44 (dk_at dksX1_leaveRow_0 10 rfl rfl)
theorem dX1_leaveRow_11 : decode cX1_leaveRow 11 = .ok (.iload_n 1, 1) := dk_27 (dk_at dksX1_leaveRow_0 11 rfl rfl)
theorem dX1_leaveRow_12 : decode cX1_leaveRow 12 = .ok (.invokevirtual 438, 3) := dk_182 1 182 (dk_at dksX1_leaveRow_0 12 rfl rfl)
theorem dX1_leaveRow_15 : decode cX1_leaveRow 15 = .ok (.invokevirtual 423, 3) := dk_182 1 167 (dk_at dksX1_leaveRow_0 15 rfl rfl)
theorem dX1_leaveRow_18 : decode cX1_leaveRow 18 = .ok (.ireturn, 1) := dk_172 (dk_at dksX1_leaveRow_0 18 rfl rfl)
abbrev iX1_leaveRow : xM := (yX1_leaveRow, cX1_leaveRow, 3, (some .int), [])
theorem mX1_leaveRow : xOkM iX1_leaveRow := ⟨by decide +kernel, by decide, q3415, q130⟩
abbrev cX1_joinRow : ByteArray := prog_1_method_74_code
def yX1_joinRow : MethodName := ⟨RX1, "joinRow", "(I)I"⟩
def dkwX1_joinRow_0 : List UInt8 := [42, 182, 0, 162, 182, 0, 165, 77, 42, 44, 44, 27, 182, 1, 185, 182, 1, 167, 172]
abbrev dktX1_joinRow_0 : List UInt8 := dkwX1_joinRow_0 ++ []
theorem dksX1_joinRow_0 : cX1_joinRow.data.toList.drop 0 = dktX1_joinRow_0 := by decide +kernel
theorem dX1_joinRow_0 : decode cX1_joinRow 0 = .ok (.aload_n 0, 1) := dk_42 (dk_at dksX1_joinRow_0 0 rfl rfl)
theorem dX1_joinRow_1 : decode cX1_joinRow 1 = .ok (.invokevirtual 162, 3) := dk_182 0 162 (dk_at dksX1_joinRow_0 1 rfl rfl)
theorem dX1_joinRow_4 : decode cX1_joinRow 4 = .ok (.invokevirtual 165, 3) := dk_182 0 165 (dk_at dksX1_joinRow_0 4 rfl rfl)
theorem dX1_joinRow_7 : decode cX1_joinRow 7 = .ok (.astore_n 2, 1) := dk_77 (dk_at dksX1_joinRow_0 7 rfl rfl)
theorem dX1_joinRow_8 : decode cX1_joinRow 8 = .ok (.aload_n 0, 1) := dk_42 (dk_at dksX1_joinRow_0 8 rfl rfl)
theorem dX1_joinRow_9 : decode cX1_joinRow 9 = .ok (.aload_n 2, 1) := dk_44 (dk_at dksX1_joinRow_0 9 rfl rfl)
theorem dX1_joinRow_10 : decode cX1_joinRow 10 = .ok (.aload_n 2, 1) := dk_44 (dk_at dksX1_joinRow_0 10 rfl rfl)
theorem dX1_joinRow_11 : decode cX1_joinRow 11 = .ok (.iload_n 1, 1) := dk_27 (dk_at dksX1_joinRow_0 11 rfl rfl)
theorem dX1_joinRow_12 : decode cX1_joinRow 12 = .ok (.invokevirtual 441, 3) := dk_182 1 185 (dk_at dksX1_joinRow_0 12 rfl rfl)
theorem dX1_joinRow_15 : decode cX1_joinRow 15 = .ok (.invokevirtual 423, 3) := dk_182 1 167 (dk_at dksX1_joinRow_0 15 rfl rfl)
theorem dX1_joinRow_18 : decode cX1_joinRow 18 = .ok (.ireturn, 1) := dk_172 (dk_at dksX1_joinRow_0 18 rfl rfl)
abbrev iX1_joinRow : xM := (yX1_joinRow, cX1_joinRow, 3, (some .int), [])
theorem mX1_joinRow : xOkM iX1_joinRow := ⟨by decide +kernel, by decide, q3423, q130⟩
abbrev cX1_setTarget : ByteArray := prog_1_method_75_code
def yX1_setTarget : MethodName := ⟨RX1, "setTarget", "(I)I"⟩
def dkwX1_setTarget_0 : List UInt8 := [42, 182, 0, 162, 182, 0, 165, 77, 42, 44, 44, 27, 182, 1, 188, 182, 1, 167, 172]
abbrev dktX1_setTarget_0 : List UInt8 := dkwX1_setTarget_0 ++ []
theorem dksX1_setTarget_0 : cX1_setTarget.data.toList.drop 0 = dktX1_setTarget_0 := by decide +kernel
theorem dX1_setTarget_0 : decode cX1_setTarget 0 = .ok (.aload_n 0, 1) := dk_42 (dk_at dksX1_setTarget_0 0 rfl rfl)
theorem dX1_setTarget_1 : decode cX1_setTarget 1 = .ok (.invokevirtual 162, 3) := dk_182 0 162 (dk_at dksX1_setTarget_0 1 rfl rfl)
theorem dX1_setTarget_4 : decode cX1_setTarget 4 = .ok (.invokevirtual 165, 3) := dk_182 0 165 (dk_at dksX1_setTarget_0 4 rfl rfl)
theorem dX1_setTarget_7 : decode cX1_setTarget 7 = .ok (.astore_n 2, 1) := dk_77 (dk_at dksX1_setTarget_0 7 rfl rfl)
theorem dX1_setTarget_8 : decode cX1_setTarget 8 = .ok (.aload_n 0, 1) := dk_42 (dk_at dksX1_setTarget_0 8 rfl rfl)
theorem dX1_setTarget_9 : decode cX1_setTarget 9 = .ok (.aload_n 2, 1) := dk_44 (dk_at dksX1_setTarget_0 9 rfl rfl)
theorem dX1_setTarget_10 : decode cX1_setTarget 10 = .ok (.aload_n 2, 1) := dk_44 (dk_at dksX1_setTarget_0 10 rfl rfl)
theorem dX1_setTarget_11 : decode cX1_setTarget 11 = .ok (.iload_n 1, 1) := dk_27 (dk_at dksX1_setTarget_0 11 rfl rfl)
theorem dX1_setTarget_12 : decode cX1_setTarget 12 = .ok (.invokevirtual 444, 3) := dk_182 1 188 (dk_at dksX1_setTarget_0 12 rfl rfl)
theorem dX1_setTarget_15 : decode cX1_setTarget 15 = .ok (.invokevirtual 423, 3) := dk_182 1 167 (dk_at dksX1_setTarget_0 15 rfl rfl)
theorem dX1_setTarget_18 : decode cX1_setTarget 18 = .ok (.ireturn, 1) := dk_172 (dk_at dksX1_setTarget_0 18 rfl rfl)
abbrev iX1_setTarget : xM := (yX1_setTarget, cX1_setTarget, 3, (some .int), [])
theorem mX1_setTarget : xOkM iX1_setTarget := ⟨by decide +kernel, by decide, q3431, q130⟩
abbrev cX1_passHours : ByteArray := prog_1_method_76_code
def yX1_passHours : MethodName := ⟨RX1, "passHours", "(I)I"⟩
def dkwX1_passHours_0 : List UInt8 := [42, 182, 0, 162, 182, 0, 165, 77, 42, 44, 44, 27, 182, 1, 191, 182, 1, 167, 172]
abbrev dktX1_passHours_0 : List UInt8 := dkwX1_passHours_0 ++ []
theorem dksX1_passHours_0 : cX1_passHours.data.toList.drop 0 = dktX1_passHours_0 := by decide +kernel
theorem dX1_passHours_0 : decode cX1_passHours 0 = .ok (.aload_n 0, 1) := dk_42 (dk_at dksX1_passHours_0 0 rfl rfl)
theorem dX1_passHours_1 : decode cX1_passHours 1 = .ok (.invokevirtual 162, 3) := dk_182 0 162 (dk_at dksX1_passHours_0 1 rfl rfl)
theorem dX1_passHours_4 : decode cX1_passHours 4 = .ok (.invokevirtual 165, 3) := dk_182 0 165 (dk_at dksX1_passHours_0 4 rfl rfl)
theorem dX1_passHours_7 : decode cX1_passHours 7 = .ok (.astore_n 2, 1) := dk_77 (dk_at dksX1_passHours_0 7 rfl rfl)
theorem dX1_passHours_8 : decode cX1_passHours 8 = .ok (.aload_n 0, 1) := dk_42 (dk_at dksX1_passHours_0 8 rfl rfl)
theorem dX1_passHours_9 : decode cX1_passHours 9 = .ok (.aload_n 2, 1) := dk_44 (dk_at dksX1_passHours_0 9 rfl rfl)
theorem dX1_passHours_10 : decode cX1_passHours 10 = .ok (.aload_n 2, 1) := dk_44 (dk_at dksX1_passHours_0 10 rfl rfl)
theorem dX1_passHours_11 : decode cX1_passHours 11 = .ok (.iload_n 1, 1) := dk_27 (dk_at dksX1_passHours_0 11 rfl rfl)
theorem dX1_passHours_12 : decode cX1_passHours 12 = .ok (.invokevirtual 447, 3) := dk_182 1 191 (dk_at dksX1_passHours_0 12 rfl rfl)
theorem dX1_passHours_15 : decode cX1_passHours 15 = .ok (.invokevirtual 423, 3) := dk_182 1 167 (dk_at dksX1_passHours_0 15 rfl rfl)
theorem dX1_passHours_18 : decode cX1_passHours 18 = .ok (.ireturn, 1) := dk_172 (dk_at dksX1_passHours_0 18 rfl rfl)
abbrev iX1_passHours : xM := (yX1_passHours, cX1_passHours, 3, (some .int), [])
theorem mX1_passHours : xOkM iX1_passHours := ⟨by decide +kernel, by decide, q3439, q130⟩
abbrev cX1_writeFiddler : ByteArray := prog_1_method_78_code
def yX1_writeFiddler : MethodName := ⟨RX1, "writeFiddler", "(I)I"⟩
def dkwX1_writeFiddler_4 : List UInt8 := [25, 4, 180, 0, 248, 182, 1, 205, 87, 132, 3, 1, 167, 255, 169, 42, 180, 0, 77, 182, 1, 198, 172]
abbrev dktX1_writeFiddler_4 : List UInt8 := dkwX1_writeFiddler_4 ++ []
def dkwX1_writeFiddler_3 : List UInt8 := [180, 1, 3, 153, 0, 16, 42, 180, 0, 77, 16, 120, 182, 0, 103, 87, 167, 0, 16, 42, 180, 0, 77]
abbrev dktX1_writeFiddler_3 : List UInt8 := dkwX1_writeFiddler_3 ++ dktX1_writeFiddler_4
def dkwX1_writeFiddler_2 : List UInt8 := [182, 0, 103, 87, 42, 180, 0, 77, 29, 184, 1, 202, 182, 0, 103, 16, 58, 182, 0, 103, 87, 25, 4]
abbrev dktX1_writeFiddler_2 : List UInt8 := dkwX1_writeFiddler_2 ++ dktX1_writeFiddler_3
def dkwX1_writeFiddler_1 : List UInt8 := [42, 182, 0, 162, 44, 180, 0, 213, 29, 182, 0, 253, 58, 4, 29, 158, 0, 13, 42, 180, 0, 77, 16, 32]
abbrev dktX1_writeFiddler_1 : List UInt8 := dkwX1_writeFiddler_1 ++ dktX1_writeFiddler_2
def dkwX1_writeFiddler_0 : List UInt8 := [42, 182, 0, 162, 27, 182, 0, 216, 77, 42, 180, 0, 77, 3, 182, 1, 194, 3, 62, 29, 7, 162, 0, 88]
abbrev dktX1_writeFiddler_0 : List UInt8 := dkwX1_writeFiddler_0 ++ dktX1_writeFiddler_1
theorem dksX1_writeFiddler_0 : cX1_writeFiddler.data.toList.drop 0 = dktX1_writeFiddler_0 := by decide +kernel
theorem dksX1_writeFiddler_1 : cX1_writeFiddler.data.toList.drop 24 = dktX1_writeFiddler_1 := dk_seg dksX1_writeFiddler_0 24 rfl rfl
theorem dksX1_writeFiddler_2 : cX1_writeFiddler.data.toList.drop 48 = dktX1_writeFiddler_2 := dk_seg dksX1_writeFiddler_1 24 rfl rfl
theorem dksX1_writeFiddler_3 : cX1_writeFiddler.data.toList.drop 71 = dktX1_writeFiddler_3 := dk_seg dksX1_writeFiddler_2 23 rfl rfl
theorem dksX1_writeFiddler_4 : cX1_writeFiddler.data.toList.drop 94 = dktX1_writeFiddler_4 := dk_seg dksX1_writeFiddler_3 23 rfl rfl
theorem dX1_writeFiddler_0 : decode cX1_writeFiddler 0 = .ok (.aload_n 0, 1) := dk_42 (dk_at dksX1_writeFiddler_0 0 rfl rfl)
theorem dX1_writeFiddler_1 : decode cX1_writeFiddler 1 = .ok (.invokevirtual 162, 3) := dk_182 0 162 (dk_at dksX1_writeFiddler_0 1 rfl rfl)
theorem dX1_writeFiddler_4 : decode cX1_writeFiddler 4 = .ok (.iload_n 1, 1) := dk_27 (dk_at dksX1_writeFiddler_0 4 rfl rfl)
theorem dX1_writeFiddler_5 : decode cX1_writeFiddler 5 = .ok (.invokevirtual 216, 3) := dk_182 0 216 (dk_at dksX1_writeFiddler_0 5 rfl rfl)
theorem dX1_writeFiddler_8 : decode cX1_writeFiddler 8 = .ok (.astore_n 2, 1) := dk_77 (dk_at dksX1_writeFiddler_0 8 rfl rfl)
theorem dX1_writeFiddler_9 : decode cX1_writeFiddler 9 = .ok (.aload_n 0, 1) := dk_42 (dk_at dksX1_writeFiddler_0 9 rfl rfl)
theorem dX1_writeFiddler_10 : decode cX1_writeFiddler 10 = .ok (.getfield 77, 3) := dk_180 0 77 (dk_at dksX1_writeFiddler_0 10 rfl rfl)
theorem dX1_writeFiddler_13 : decode cX1_writeFiddler 13 = .ok (.iconst 0, 1) := dk_3 (dk_at dksX1_writeFiddler_0 13 rfl rfl)
theorem dX1_writeFiddler_14 : decode cX1_writeFiddler 14 = .ok (.invokevirtual 450, 3) := dk_182 1 194 (dk_at dksX1_writeFiddler_0 14 rfl rfl)
theorem dX1_writeFiddler_17 : decode cX1_writeFiddler 17 = .ok (.iconst 0, 1) := dk_3 (dk_at dksX1_writeFiddler_0 17 rfl rfl)
theorem dX1_writeFiddler_18 : decode cX1_writeFiddler 18 = .ok (.istore_n 3, 1) := dk_62 (dk_at dksX1_writeFiddler_0 18 rfl rfl)
theorem dX1_writeFiddler_19 : decode cX1_writeFiddler 19 = .ok (.iload_n 3, 1) := dk_29 (dk_at dksX1_writeFiddler_0 19 rfl rfl)
theorem dX1_writeFiddler_20 : decode cX1_writeFiddler 20 = .ok (.iconst 4, 1) := dk_7 (dk_at dksX1_writeFiddler_0 20 rfl rfl)
theorem dX1_writeFiddler_21 : decode cX1_writeFiddler 21 = .ok (.if_icmp .ge 88, 3) := dk_162 0 88 (dk_at dksX1_writeFiddler_0 21 rfl rfl)
theorem dX1_writeFiddler_24 : decode cX1_writeFiddler 24 = .ok (.aload_n 0, 1) := dk_42 (dk_at dksX1_writeFiddler_1 0 rfl rfl)
theorem dX1_writeFiddler_25 : decode cX1_writeFiddler 25 = .ok (.invokevirtual 162, 3) := dk_182 0 162 (dk_at dksX1_writeFiddler_1 1 rfl rfl)
theorem dX1_writeFiddler_28 : decode cX1_writeFiddler 28 = .ok (.aload_n 2, 1) := dk_44 (dk_at dksX1_writeFiddler_1 4 rfl rfl)
theorem dX1_writeFiddler_29 : decode cX1_writeFiddler 29 = .ok (.getfield 213, 3) := dk_180 0 213 (dk_at dksX1_writeFiddler_1 5 rfl rfl)
theorem dX1_writeFiddler_32 : decode cX1_writeFiddler 32 = .ok (.iload_n 3, 1) := dk_29 (dk_at dksX1_writeFiddler_1 8 rfl rfl)
theorem dX1_writeFiddler_33 : decode cX1_writeFiddler 33 = .ok (.invokevirtual 253, 3) := dk_182 0 253 (dk_at dksX1_writeFiddler_1 9 rfl rfl)
theorem dX1_writeFiddler_36 : decode cX1_writeFiddler 36 = .ok (.astore 4, 2) := dk_58 4 (dk_at dksX1_writeFiddler_1 12 rfl rfl)
theorem dX1_writeFiddler_38 : decode cX1_writeFiddler 38 = .ok (.iload_n 3, 1) := dk_29 (dk_at dksX1_writeFiddler_1 14 rfl rfl)
theorem dX1_writeFiddler_39 : decode cX1_writeFiddler 39 = .ok (.ifCond .le 13, 3) := dk_158 0 13 (dk_at dksX1_writeFiddler_1 15 rfl rfl)
theorem dX1_writeFiddler_42 : decode cX1_writeFiddler 42 = .ok (.aload_n 0, 1) := dk_42 (dk_at dksX1_writeFiddler_1 18 rfl rfl)
theorem dX1_writeFiddler_43 : decode cX1_writeFiddler 43 = .ok (.getfield 77, 3) := dk_180 0 77 (dk_at dksX1_writeFiddler_1 19 rfl rfl)
theorem dX1_writeFiddler_46 : decode cX1_writeFiddler 46 = .ok (.bipush 32, 2) := dk_16 32 (dk_at dksX1_writeFiddler_1 22 rfl rfl)
theorem dX1_writeFiddler_48 : decode cX1_writeFiddler 48 = .ok (.invokevirtual 103, 3) := dk_182 0 103 (dk_at dksX1_writeFiddler_2 0 rfl rfl)
theorem dX1_writeFiddler_51 : decode cX1_writeFiddler 51 = .ok (.pop, 1) := dk_87 (dk_at dksX1_writeFiddler_2 3 rfl rfl)
theorem dX1_writeFiddler_52 : decode cX1_writeFiddler 52 = .ok (.aload_n 0, 1) := dk_42 (dk_at dksX1_writeFiddler_2 4 rfl rfl)
theorem dX1_writeFiddler_53 : decode cX1_writeFiddler 53 = .ok (.getfield 77, 3) := dk_180 0 77 (dk_at dksX1_writeFiddler_2 5 rfl rfl)
theorem dX1_writeFiddler_56 : decode cX1_writeFiddler 56 = .ok (.iload_n 3, 1) := dk_29 (dk_at dksX1_writeFiddler_2 8 rfl rfl)
theorem dX1_writeFiddler_57 : decode cX1_writeFiddler 57 = .ok (.invokestatic 458, 3) := dk_184 1 202 (dk_at dksX1_writeFiddler_2 9 rfl rfl)
theorem dX1_writeFiddler_60 : decode cX1_writeFiddler 60 = .ok (.invokevirtual 103, 3) := dk_182 0 103 (dk_at dksX1_writeFiddler_2 12 rfl rfl)
theorem dX1_writeFiddler_63 : decode cX1_writeFiddler 63 = .ok (.bipush 58, 2) := dk_16 58 (dk_at dksX1_writeFiddler_2 15 rfl rfl)
theorem dX1_writeFiddler_65 : decode cX1_writeFiddler 65 = .ok (.invokevirtual 103, 3) := dk_182 0 103 (dk_at dksX1_writeFiddler_2 17 rfl rfl)
theorem dX1_writeFiddler_68 : decode cX1_writeFiddler 68 = .ok (.pop, 1) := dk_87 (dk_at dksX1_writeFiddler_2 20 rfl rfl)
theorem dX1_writeFiddler_69 : decode cX1_writeFiddler 69 = .ok (.aload 4, 2) := dk_25 4 (dk_at dksX1_writeFiddler_2 21 rfl rfl)
theorem dX1_writeFiddler_71 : decode cX1_writeFiddler 71 = .ok (.getfield 259, 3) := dk_180 1 3 (dk_at dksX1_writeFiddler_3 0 rfl rfl)
theorem dX1_writeFiddler_74 : decode cX1_writeFiddler 74 = .ok (.ifCond .eq 16, 3) := dk_153 0 16 (dk_at dksX1_writeFiddler_3 3 rfl rfl)
theorem dX1_writeFiddler_77 : decode cX1_writeFiddler 77 = .ok (.aload_n 0, 1) := dk_42 (dk_at dksX1_writeFiddler_3 6 rfl rfl)
theorem dX1_writeFiddler_78 : decode cX1_writeFiddler 78 = .ok (.getfield 77, 3) := dk_180 0 77 (dk_at dksX1_writeFiddler_3 7 rfl rfl)
theorem dX1_writeFiddler_81 : decode cX1_writeFiddler 81 = .ok (.bipush 120, 2) := dk_16 120 (dk_at dksX1_writeFiddler_3 10 rfl rfl)
theorem dX1_writeFiddler_83 : decode cX1_writeFiddler 83 = .ok (.invokevirtual 103, 3) := dk_182 0 103 (dk_at dksX1_writeFiddler_3 12 rfl rfl)
theorem dX1_writeFiddler_86 : decode cX1_writeFiddler 86 = .ok (.pop, 1) := dk_87 (dk_at dksX1_writeFiddler_3 15 rfl rfl)
theorem dX1_writeFiddler_87 : decode cX1_writeFiddler 87 = .ok (.goto 16, 3) := dk_167 0 16 (dk_at dksX1_writeFiddler_3 16 rfl rfl)
theorem dX1_writeFiddler_90 : decode cX1_writeFiddler 90 = .ok (.aload_n 0, 1) := dk_42 (dk_at dksX1_writeFiddler_3 19 rfl rfl)
theorem dX1_writeFiddler_91 : decode cX1_writeFiddler 91 = .ok (.getfield 77, 3) := dk_180 0 77 (dk_at dksX1_writeFiddler_3 20 rfl rfl)
theorem dX1_writeFiddler_94 : decode cX1_writeFiddler 94 = .ok (.aload 4, 2) := dk_25 4 (dk_at dksX1_writeFiddler_4 0 rfl rfl)
theorem dX1_writeFiddler_96 : decode cX1_writeFiddler 96 = .ok (.getfield 248, 3) := dk_180 0 248 (dk_at dksX1_writeFiddler_4 2 rfl rfl)
theorem dX1_writeFiddler_99 : decode cX1_writeFiddler 99 = .ok (.invokevirtual 461, 3) := dk_182 1 205 (dk_at dksX1_writeFiddler_4 5 rfl rfl)
theorem dX1_writeFiddler_102 : decode cX1_writeFiddler 102 = .ok (.pop, 1) := dk_87 (dk_at dksX1_writeFiddler_4 8 rfl rfl)
theorem dX1_writeFiddler_103 : decode cX1_writeFiddler 103 = .ok (.iinc 3 1, 3) := dk_132 3 1 (dk_at dksX1_writeFiddler_4 9 rfl rfl)
theorem dX1_writeFiddler_106 : decode cX1_writeFiddler 106 = .ok (.goto (-87), 3) := dk_167 255 169 (dk_at dksX1_writeFiddler_4 12 rfl rfl)
theorem dX1_writeFiddler_109 : decode cX1_writeFiddler 109 = .ok (.aload_n 0, 1) := dk_42 (dk_at dksX1_writeFiddler_4 15 rfl rfl)
theorem dX1_writeFiddler_110 : decode cX1_writeFiddler 110 = .ok (.getfield 77, 3) := dk_180 0 77 (dk_at dksX1_writeFiddler_4 16 rfl rfl)
theorem dX1_writeFiddler_113 : decode cX1_writeFiddler 113 = .ok (.invokevirtual 454, 3) := dk_182 1 198 (dk_at dksX1_writeFiddler_4 19 rfl rfl)
theorem dX1_writeFiddler_116 : decode cX1_writeFiddler 116 = .ok (.ireturn, 1) := dk_172 (dk_at dksX1_writeFiddler_4 22 rfl rfl)
abbrev iX1_writeFiddler : xM := (yX1_writeFiddler, cX1_writeFiddler, 5, (some .int), [])
theorem mX1_writeFiddler : xOkM iX1_writeFiddler := ⟨by decide +kernel, by decide, q3447, q130⟩
abbrev cX1_nameOfString : ByteArray := prog_1_method_16_code
def yX1_nameOfString : MethodName := ⟨RX1, "nameOfString", "(I)C"⟩
def dkwX1_nameOfString_1 : List UInt8 := [16, 97, 167, 0, 5, 16, 101, 172]
abbrev dktX1_nameOfString_1 : List UInt8 := dkwX1_nameOfString_1 ++ []
def dkwX1_nameOfString_0 : List UInt8 := [26, 154, 0, 8, 16, 103, 167, 0, 25, 26, 4, 160, 0, 8, 16, 100, 167, 0, 15, 26, 5, 160, 0, 8]
abbrev dktX1_nameOfString_0 : List UInt8 := dkwX1_nameOfString_0 ++ dktX1_nameOfString_1
theorem dksX1_nameOfString_0 : cX1_nameOfString.data.toList.drop 0 = dktX1_nameOfString_0 := by decide +kernel
theorem dksX1_nameOfString_1 : cX1_nameOfString.data.toList.drop 24 = dktX1_nameOfString_1 := dk_seg dksX1_nameOfString_0 24 rfl rfl
theorem dX1_nameOfString_0 : decode cX1_nameOfString 0 = .ok (.iload_n 0, 1) := dk_26 (dk_at dksX1_nameOfString_0 0 rfl rfl)
theorem dX1_nameOfString_1 : decode cX1_nameOfString 1 = .ok (.ifCond .ne 8, 3) := dk_154 0 8 (dk_at dksX1_nameOfString_0 1 rfl rfl)
theorem dX1_nameOfString_4 : decode cX1_nameOfString 4 = .ok (.bipush 103, 2) := dk_16 103 (dk_at dksX1_nameOfString_0 4 rfl rfl)
theorem dX1_nameOfString_6 : decode cX1_nameOfString 6 = .ok (.goto 25, 3) := dk_167 0 25 (dk_at dksX1_nameOfString_0 6 rfl rfl)
theorem dX1_nameOfString_9 : decode cX1_nameOfString 9 = .ok (.iload_n 0, 1) := dk_26 (dk_at dksX1_nameOfString_0 9 rfl rfl)
theorem dX1_nameOfString_10 : decode cX1_nameOfString 10 = .ok (.iconst 1, 1) := dk_4 (dk_at dksX1_nameOfString_0 10 rfl rfl)
theorem dX1_nameOfString_11 : decode cX1_nameOfString 11 = .ok (.if_icmp .ne 8, 3) := dk_160 0 8 (dk_at dksX1_nameOfString_0 11 rfl rfl)
theorem dX1_nameOfString_14 : decode cX1_nameOfString 14 = .ok (.bipush 100, 2) := dk_16 100 (dk_at dksX1_nameOfString_0 14 rfl rfl)
theorem dX1_nameOfString_16 : decode cX1_nameOfString 16 = .ok (.goto 15, 3) := dk_167 0 15 (dk_at dksX1_nameOfString_0 16 rfl rfl)
theorem dX1_nameOfString_19 : decode cX1_nameOfString 19 = .ok (.iload_n 0, 1) := dk_26 (dk_at dksX1_nameOfString_0 19 rfl rfl)
theorem dX1_nameOfString_20 : decode cX1_nameOfString 20 = .ok (.iconst 2, 1) := dk_5 (dk_at dksX1_nameOfString_0 20 rfl rfl)
theorem dX1_nameOfString_21 : decode cX1_nameOfString 21 = .ok (.if_icmp .ne 8, 3) := dk_160 0 8 (dk_at dksX1_nameOfString_0 21 rfl rfl)
theorem dX1_nameOfString_24 : decode cX1_nameOfString 24 = .ok (.bipush 97, 2) := dk_16 97 (dk_at dksX1_nameOfString_1 0 rfl rfl)
theorem dX1_nameOfString_26 : decode cX1_nameOfString 26 = .ok (.goto 5, 3) := dk_167 0 5 (dk_at dksX1_nameOfString_1 2 rfl rfl)
theorem dX1_nameOfString_29 : decode cX1_nameOfString 29 = .ok (.bipush 101, 2) := dk_16 101 (dk_at dksX1_nameOfString_1 5 rfl rfl)
theorem dX1_nameOfString_31 : decode cX1_nameOfString 31 = .ok (.ireturn, 1) := dk_172 (dk_at dksX1_nameOfString_1 7 rfl rfl)
abbrev iX1_nameOfString : xM := (yX1_nameOfString, cX1_nameOfString, 1, (some .char), [])
theorem mX1_nameOfString : xOkM iX1_nameOfString := ⟨by decide +kernel, by decide, q3450, q130⟩
abbrev cX1_undo : ByteArray := prog_1_method_81_code
def yX1_undo : MethodName := ⟨RX1, "undo", "()I"⟩
def dkwX1_undo_0 : List UInt8 := [42, 180, 0, 46, 182, 1, 216, 172]
abbrev dktX1_undo_0 : List UInt8 := dkwX1_undo_0 ++ []
theorem dksX1_undo_0 : cX1_undo.data.toList.drop 0 = dktX1_undo_0 := by decide +kernel
theorem dX1_undo_0 : decode cX1_undo 0 = .ok (.aload_n 0, 1) := dk_42 (dk_at dksX1_undo_0 0 rfl rfl)
theorem dX1_undo_1 : decode cX1_undo 1 = .ok (.getfield 46, 3) := dk_180 0 46 (dk_at dksX1_undo_0 1 rfl rfl)
theorem dX1_undo_4 : decode cX1_undo 4 = .ok (.invokevirtual 472, 3) := dk_182 1 216 (dk_at dksX1_undo_0 4 rfl rfl)
theorem dX1_undo_7 : decode cX1_undo 7 = .ok (.ireturn, 1) := dk_172 (dk_at dksX1_undo_0 7 rfl rfl)
abbrev iX1_undo : xM := (yX1_undo, cX1_undo, 1, (some .int), [])
theorem mX1_undo : xOkM iX1_undo := ⟨by decide +kernel, by decide, q3458, q130⟩
abbrev cX1_save : ByteArray := prog_1_method_82_code
def yX1_save : MethodName := ⟨RX1, "save", "(I)I"⟩
def dkwX1_save_0 : List UInt8 := [42, 180, 0, 46, 27, 182, 1, 219, 42, 182, 0, 162, 180, 0, 177, 172]
abbrev dktX1_save_0 : List UInt8 := dkwX1_save_0 ++ []
theorem dksX1_save_0 : cX1_save.data.toList.drop 0 = dktX1_save_0 := by decide +kernel
theorem dX1_save_0 : decode cX1_save 0 = .ok (.aload_n 0, 1) := dk_42 (dk_at dksX1_save_0 0 rfl rfl)
theorem dX1_save_1 : decode cX1_save 1 = .ok (.getfield 46, 3) := dk_180 0 46 (dk_at dksX1_save_0 1 rfl rfl)
theorem dX1_save_4 : decode cX1_save 4 = .ok (.iload_n 1, 1) := dk_27 (dk_at dksX1_save_0 4 rfl rfl)
theorem dX1_save_5 : decode cX1_save 5 = .ok (.invokevirtual 475, 3) := dk_182 1 219 (dk_at dksX1_save_0 5 rfl rfl)
theorem dX1_save_8 : decode cX1_save 8 = .ok (.aload_n 0, 1) := dk_42 (dk_at dksX1_save_0 8 rfl rfl)
theorem dX1_save_9 : decode cX1_save 9 = .ok (.invokevirtual 162, 3) := dk_182 0 162 (dk_at dksX1_save_0 9 rfl rfl)
theorem dX1_save_12 : decode cX1_save 12 = .ok (.getfield 177, 3) := dk_180 0 177 (dk_at dksX1_save_0 12 rfl rfl)
theorem dX1_save_15 : decode cX1_save 15 = .ok (.ireturn, 1) := dk_172 (dk_at dksX1_save_0 15 rfl rfl)
abbrev iX1_save : xM := (yX1_save, cX1_save, 2, (some .int), [])
theorem mX1_save : xOkM iX1_save := ⟨by decide +kernel, by decide, q3485, q130⟩
abbrev cX1_restore : ByteArray := prog_1_method_83_code
def yX1_restore : MethodName := ⟨RX1, "restore", "(I)I"⟩
def dkwX1_restore_0 : List UInt8 := [42, 180, 0, 46, 27, 182, 1, 222, 42, 182, 0, 162, 180, 0, 177, 172]
abbrev dktX1_restore_0 : List UInt8 := dkwX1_restore_0 ++ []
theorem dksX1_restore_0 : cX1_restore.data.toList.drop 0 = dktX1_restore_0 := by decide +kernel
theorem dX1_restore_0 : decode cX1_restore 0 = .ok (.aload_n 0, 1) := dk_42 (dk_at dksX1_restore_0 0 rfl rfl)
theorem dX1_restore_1 : decode cX1_restore 1 = .ok (.getfield 46, 3) := dk_180 0 46 (dk_at dksX1_restore_0 1 rfl rfl)
theorem dX1_restore_4 : decode cX1_restore 4 = .ok (.iload_n 1, 1) := dk_27 (dk_at dksX1_restore_0 4 rfl rfl)
theorem dX1_restore_5 : decode cX1_restore 5 = .ok (.invokevirtual 478, 3) := dk_182 1 222 (dk_at dksX1_restore_0 5 rfl rfl)
theorem dX1_restore_8 : decode cX1_restore 8 = .ok (.aload_n 0, 1) := dk_42 (dk_at dksX1_restore_0 8 rfl rfl)
theorem dX1_restore_9 : decode cX1_restore 9 = .ok (.invokevirtual 162, 3) := dk_182 0 162 (dk_at dksX1_restore_0 9 rfl rfl)
theorem dX1_restore_12 : decode cX1_restore 12 = .ok (.getfield 177, 3) := dk_180 0 177 (dk_at dksX1_restore_0 12 rfl rfl)
theorem dX1_restore_15 : decode cX1_restore 15 = .ok (.ireturn, 1) := dk_172 (dk_at dksX1_restore_0 15 rfl rfl)
abbrev iX1_restore : xM := (yX1_restore, cX1_restore, 2, (some .int), [])
theorem mX1_restore : xOkM iX1_restore := ⟨by decide +kernel, by decide, q3499, q130⟩

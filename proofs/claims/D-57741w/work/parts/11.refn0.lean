set_option maxRecDepth 100000
abbrev cX7_init : ByteArray := prog_15_method_1_code
def yX7_init : MethodName := ⟨RX7, "<init>", "()V"⟩
def dkwX7_init_16 : List UInt8 := [180, 0, 7, 4, 16, 20, 184, 0, 65, 7, 79, 42, 182, 0, 69, 177]
abbrev dktX7_init_16 : List UInt8 := dkwX7_init_16 ++ []
def dkwX7_init_15 : List UInt8 := [4, 16, 18, 184, 0, 65, 16, 8, 79, 42, 180, 0, 7, 4, 16, 19, 184, 0, 65, 5, 79, 42]
abbrev dktX7_init_15 : List UInt8 := dkwX7_init_15 ++ dktX7_init_16
def dkwX7_init_14 : List UInt8 := [27, 7, 112, 96, 184, 0, 65, 42, 180, 0, 26, 27, 46, 79, 132, 1, 1, 167, 255, 224, 42, 180, 0, 7]
abbrev dktX7_init_14 : List UInt8 := dkwX7_init_14 ++ dktX7_init_15
def dkwX7_init_13 : List UInt8 := [17, 16, 46, 7, 182, 0, 61, 3, 60, 27, 16, 16, 162, 0, 32, 42, 180, 0, 7, 27, 7, 108, 16, 9]
abbrev dktX7_init_13 : List UInt8 := dkwX7_init_13 ++ dktX7_init_14
def dkwX7_init_12 : List UInt8 := [17, 5, 206, 7, 182, 0, 61, 42, 17, 9, 226, 5, 182, 0, 61, 42, 17, 12, 52, 7, 182, 0, 61, 42]
abbrev dktX7_init_12 : List UInt8 := dkwX7_init_12 ++ dktX7_init_13
def dkwX7_init_11 : List UInt8 := [180, 0, 7, 16, 10, 4, 79, 42, 180, 0, 7, 16, 11, 5, 79, 42, 180, 0, 7, 16, 12, 6, 79, 42]
abbrev dktX7_init_11 : List UInt8 := dkwX7_init_11 ++ dktX7_init_12
def dkwX7_init_10 : List UInt8 := [180, 0, 7, 6, 6, 79, 42, 180, 0, 7, 7, 5, 79, 42, 180, 0, 7, 16, 9, 4, 79, 42]
abbrev dktX7_init_10 : List UInt8 := dkwX7_init_10 ++ dktX7_init_11
def dkwX7_init_9 : List UInt8 := [16, 120, 188, 10, 181, 0, 58, 42, 180, 0, 7, 4, 16, 18, 79, 42, 180, 0, 7, 5, 16, 21, 79, 42]
abbrev dktX7_init_9 : List UInt8 := dkwX7_init_9 ++ dktX7_init_10
def dkwX7_init_8 : List UInt8 := [181, 0, 45, 42, 2, 181, 0, 48, 42, 7, 188, 10, 181, 0, 52, 42, 7, 188, 10, 181, 0, 55, 42]
abbrev dktX7_init_8 : List UInt8 := dkwX7_init_8 ++ dktX7_init_9
def dkwX7_init_7 : List UInt8 := [6, 20, 0, 36, 80, 181, 0, 38, 42, 17, 3, 32, 188, 10, 181, 0, 42, 42, 17, 3, 32, 188, 10]
abbrev dktX7_init_7 : List UInt8 := dkwX7_init_7 ++ dktX7_init_8
def dkwX7_init_6 : List UInt8 := [181, 0, 29, 42, 7, 188, 11, 89, 3, 20, 0, 32, 80, 89, 4, 20, 0, 34, 80, 89, 5, 10, 80, 89]
abbrev dktX7_init_6 : List UInt8 := dkwX7_init_6 ++ dktX7_init_7
def dkwX7_init_5 : List UInt8 := [16, 13, 3, 79, 89, 16, 14, 6, 79, 89, 16, 15, 3, 79, 181, 0, 26, 42, 16, 10, 188, 10]
abbrev dktX7_init_5 : List UInt8 := dkwX7_init_5 ++ dktX7_init_6
def dkwX7_init_4 : List UInt8 := [16, 9, 16, 226, 79, 89, 16, 10, 5, 79, 89, 16, 11, 4, 79, 89, 16, 12, 17, 255, 76, 79, 89]
abbrev dktX7_init_4 : List UInt8 := dkwX7_init_4 ++ dktX7_init_5
def dkwX7_init_3 : List UInt8 := [8, 79, 89, 8, 5, 79, 89, 16, 6, 16, 252, 79, 89, 16, 7, 16, 12, 79, 89, 16, 8, 2, 79, 89]
abbrev dktX7_init_3 : List UInt8 := dkwX7_init_3 ++ dktX7_init_4
def dkwX7_init_2 : List UInt8 := [42, 16, 16, 188, 10, 89, 3, 3, 79, 89, 4, 4, 79, 89, 5, 16, 253, 79, 89, 6, 5, 79, 89, 7]
abbrev dktX7_init_2 : List UInt8 := dkwX7_init_2 ++ dktX7_init_3
def dkwX7_init_1 : List UInt8 := [17, 8, 192, 188, 10, 181, 0, 16, 42, 17, 2, 48, 188, 10, 181, 0, 19, 42, 5, 188, 4, 181, 0, 22]
abbrev dktX7_init_1 : List UInt8 := dkwX7_init_1 ++ dktX7_init_2
def dkwX7_init_0 : List UInt8 := [42, 183, 0, 1, 42, 17, 1, 24, 188, 10, 181, 0, 7, 42, 17, 1, 24, 188, 10, 181, 0, 13, 42]
abbrev dktX7_init_0 : List UInt8 := dkwX7_init_0 ++ dktX7_init_1
theorem dksX7_init_0 : cX7_init.data.toList.drop 0 = dktX7_init_0 := by decide +kernel
theorem dksX7_init_1 : cX7_init.data.toList.drop 23 = dktX7_init_1 := dk_seg dksX7_init_0 23 rfl rfl
theorem dksX7_init_2 : cX7_init.data.toList.drop 47 = dktX7_init_2 := dk_seg dksX7_init_1 24 rfl rfl
theorem dksX7_init_3 : cX7_init.data.toList.drop 71 = dktX7_init_3 := dk_seg dksX7_init_2 24 rfl rfl
theorem dksX7_init_4 : cX7_init.data.toList.drop 95 = dktX7_init_4 := dk_seg dksX7_init_3 24 rfl rfl
theorem dksX7_init_5 : cX7_init.data.toList.drop 118 = dktX7_init_5 := dk_seg dksX7_init_4 23 rfl rfl
theorem dksX7_init_6 : cX7_init.data.toList.drop 140 = dktX7_init_6 := dk_seg dksX7_init_5 22 rfl rfl
theorem dksX7_init_7 : cX7_init.data.toList.drop 164 = dktX7_init_7 := dk_seg dksX7_init_6 24 rfl rfl
theorem dksX7_init_8 : cX7_init.data.toList.drop 187 = dktX7_init_8 := dk_seg dksX7_init_7 23 rfl rfl
theorem dksX7_init_9 : cX7_init.data.toList.drop 210 = dktX7_init_9 := dk_seg dksX7_init_8 23 rfl rfl
theorem dksX7_init_10 : cX7_init.data.toList.drop 234 = dktX7_init_10 := dk_seg dksX7_init_9 24 rfl rfl
theorem dksX7_init_11 : cX7_init.data.toList.drop 256 = dktX7_init_11 := dk_seg dksX7_init_10 22 rfl rfl
theorem dksX7_init_12 : cX7_init.data.toList.drop 280 = dktX7_init_12 := dk_seg dksX7_init_11 24 rfl rfl
theorem dksX7_init_13 : cX7_init.data.toList.drop 304 = dktX7_init_13 := dk_seg dksX7_init_12 24 rfl rfl
theorem dksX7_init_14 : cX7_init.data.toList.drop 328 = dktX7_init_14 := dk_seg dksX7_init_13 24 rfl rfl
theorem dksX7_init_15 : cX7_init.data.toList.drop 352 = dktX7_init_15 := dk_seg dksX7_init_14 24 rfl rfl
theorem dksX7_init_16 : cX7_init.data.toList.drop 374 = dktX7_init_16 := dk_seg dksX7_init_15 22 rfl rfl
theorem dX7_init_0 : decode cX7_init 0 = .ok (.aload_n 0, 1) := dk_42 (dk_at dksX7_init_0 0 rfl rfl)
theorem dX7_init_1 : decode cX7_init 1 = .ok (.invokespecial 1, 3) := dk_183 0 1 (dk_at dksX7_init_0 1 rfl rfl)
theorem dX7_init_4 : decode cX7_init 4 = .ok (.aload_n 0, 1) := dk_42 (dk_at dksX7_init_0 4 rfl rfl)
theorem dX7_init_5 : decode cX7_init 5 = .ok (.sipush 280, 3) := dk_17 1 24 (dk_at dksX7_init_0 5 rfl rfl)
theorem dX7_init_8 : decode cX7_init 8 = .ok (.newarray .int, 2) := dk_188_10 (dk_at dksX7_init_0 8 rfl rfl)
theorem dX7_init_10 : decode cX7_init 10 = .ok (.putfield 7, 3) := dk_181 0 7 (dk_at dksX7_init_0 10 rfl rfl)
theorem dX7_init_13 : decode cX7_init 13 = .ok (.aload_n 0, 1) := dk_42 (dk_at dksX7_init_0 13 rfl rfl)
theorem dX7_init_14 : decode cX7_init 14 = .ok (.sipush 280, 3) := dk_17 1 24 (dk_at dksX7_init_0 14 rfl rfl)
theorem dX7_init_17 : decode cX7_init 17 = .ok (.newarray .int, 2) := dk_188_10 (dk_at dksX7_init_0 17 rfl rfl)
theorem dX7_init_19 : decode cX7_init 19 = .ok (.putfield 13, 3) := dk_181 0 13 (dk_at dksX7_init_0 19 rfl rfl)
theorem dX7_init_22 : decode cX7_init 22 = .ok (.aload_n 0, 1) := dk_42 (dk_at dksX7_init_0 22 rfl rfl)
theorem dX7_init_23 : decode cX7_init 23 = .ok (.sipush 2240, 3) := dk_17 8 192 (dk_at dksX7_init_1 0 rfl rfl)
theorem dX7_init_26 : decode cX7_init 26 = .ok (.newarray .int, 2) := dk_188_10 (dk_at dksX7_init_1 3 rfl rfl)
theorem dX7_init_28 : decode cX7_init 28 = .ok (.putfield 16, 3) := dk_181 0 16 (dk_at dksX7_init_1 5 rfl rfl)
theorem dX7_init_31 : decode cX7_init 31 = .ok (.aload_n 0, 1) := dk_42 (dk_at dksX7_init_1 8 rfl rfl)
theorem dX7_init_32 : decode cX7_init 32 = .ok (.sipush 560, 3) := dk_17 2 48 (dk_at dksX7_init_1 9 rfl rfl)
theorem dX7_init_35 : decode cX7_init 35 = .ok (.newarray .int, 2) := dk_188_10 (dk_at dksX7_init_1 12 rfl rfl)
theorem dX7_init_37 : decode cX7_init 37 = .ok (.putfield 19, 3) := dk_181 0 19 (dk_at dksX7_init_1 14 rfl rfl)
theorem dX7_init_40 : decode cX7_init 40 = .ok (.aload_n 0, 1) := dk_42 (dk_at dksX7_init_1 17 rfl rfl)
theorem dX7_init_41 : decode cX7_init 41 = .ok (.iconst 2, 1) := dk_5 (dk_at dksX7_init_1 18 rfl rfl)
theorem dX7_init_42 : decode cX7_init 42 = .ok (.newarray .boolean, 2) := dk_188_4 (dk_at dksX7_init_1 19 rfl rfl)
theorem dX7_init_44 : decode cX7_init 44 = .ok (.putfield 22, 3) := dk_181 0 22 (dk_at dksX7_init_1 21 rfl rfl)
theorem dX7_init_47 : decode cX7_init 47 = .ok (.aload_n 0, 1) := dk_42 (dk_at dksX7_init_2 0 rfl rfl)
theorem dX7_init_48 : decode cX7_init 48 = .ok (.bipush 16, 2) := dk_16 16 (dk_at dksX7_init_2 1 rfl rfl)
theorem dX7_init_50 : decode cX7_init 50 = .ok (.newarray .int, 2) := dk_188_10 (dk_at dksX7_init_2 3 rfl rfl)
theorem dX7_init_52 : decode cX7_init 52 = .ok (.dup, 1) := dk_89 (dk_at dksX7_init_2 5 rfl rfl)
theorem dX7_init_53 : decode cX7_init 53 = .ok (.iconst 0, 1) := dk_3 (dk_at dksX7_init_2 6 rfl rfl)
theorem dX7_init_54 : decode cX7_init 54 = .ok (.iconst 0, 1) := dk_3 (dk_at dksX7_init_2 7 rfl rfl)
theorem dX7_init_55 : decode cX7_init 55 = .ok (.iastore, 1) := dk_79 (dk_at dksX7_init_2 8 rfl rfl)
theorem dX7_init_56 : decode cX7_init 56 = .ok (.dup, 1) := dk_89 (dk_at dksX7_init_2 9 rfl rfl)
theorem dX7_init_57 : decode cX7_init 57 = .ok (.iconst 1, 1) := dk_4 (dk_at dksX7_init_2 10 rfl rfl)
theorem dX7_init_58 : decode cX7_init 58 = .ok (.iconst 1, 1) := dk_4 (dk_at dksX7_init_2 11 rfl rfl)
theorem dX7_init_59 : decode cX7_init 59 = .ok (.iastore, 1) := dk_79 (dk_at dksX7_init_2 12 rfl rfl)
theorem dX7_init_60 : decode cX7_init 60 = .ok (.dup, 1) := dk_89 (dk_at dksX7_init_2 13 rfl rfl)
theorem dX7_init_61 : decode cX7_init 61 = .ok (.iconst 2, 1) := dk_5 (dk_at dksX7_init_2 14 rfl rfl)
theorem dX7_init_62 : decode cX7_init 62 = .ok (.bipush (-3), 2) := dk_16 253 (dk_at dksX7_init_2 15 rfl rfl)
theorem dX7_init_64 : decode cX7_init 64 = .ok (.iastore, 1) := dk_79 (dk_at dksX7_init_2 17 rfl rfl)
theorem dX7_init_65 : decode cX7_init 65 = .ok (.dup, 1) := dk_89 (dk_at dksX7_init_2 18 rfl rfl)
theorem dX7_init_66 : decode cX7_init 66 = .ok (.iconst 3, 1) := dk_6 (dk_at dksX7_init_2 19 rfl rfl)
theorem dX7_init_67 : decode cX7_init 67 = .ok (.iconst 2, 1) := dk_5 (dk_at dksX7_init_2 20 rfl rfl)
theorem dX7_init_68 : decode cX7_init 68 = .ok (.iastore, 1) := dk_79 (dk_at dksX7_init_2 21 rfl rfl)
theorem dX7_init_69 : decode cX7_init 69 = .ok (.dup, 1) := dk_89 (dk_at dksX7_init_2 22 rfl rfl)
theorem dX7_init_70 : decode cX7_init 70 = .ok (.iconst 4, 1) := dk_7 (dk_at dksX7_init_2 23 rfl rfl)
theorem dX7_init_71 : decode cX7_init 71 = .ok (.iconst 5, 1) := dk_8 (dk_at dksX7_init_3 0 rfl rfl)
theorem dX7_init_72 : decode cX7_init 72 = .ok (.iastore, 1) := dk_79 (dk_at dksX7_init_3 1 rfl rfl)
theorem dX7_init_73 : decode cX7_init 73 = .ok (.dup, 1) := dk_89 (dk_at dksX7_init_3 2 rfl rfl)
theorem dX7_init_74 : decode cX7_init 74 = .ok (.iconst 5, 1) := dk_8 (dk_at dksX7_init_3 3 rfl rfl)
theorem dX7_init_75 : decode cX7_init 75 = .ok (.iconst 2, 1) := dk_5 (dk_at dksX7_init_3 4 rfl rfl)
theorem dX7_init_76 : decode cX7_init 76 = .ok (.iastore, 1) := dk_79 (dk_at dksX7_init_3 5 rfl rfl)
theorem dX7_init_77 : decode cX7_init 77 = .ok (.dup, 1) := dk_89 (dk_at dksX7_init_3 6 rfl rfl)
theorem dX7_init_78 : decode cX7_init 78 = .ok (.bipush 6, 2) := dk_16 6 (dk_at dksX7_init_3 7 rfl rfl)
theorem dX7_init_80 : decode cX7_init 80 = .ok (.bipush (-4), 2) := dk_16 252 (dk_at dksX7_init_3 9 rfl rfl)
theorem dX7_init_82 : decode cX7_init 82 = .ok (.iastore, 1) := dk_79 (dk_at dksX7_init_3 11 rfl rfl)
theorem dX7_init_83 : decode cX7_init 83 = .ok (.dup, 1) := dk_89 (dk_at dksX7_init_3 12 rfl rfl)
theorem dX7_init_84 : decode cX7_init 84 = .ok (.bipush 7, 2) := dk_16 7 (dk_at dksX7_init_3 13 rfl rfl)
theorem dX7_init_86 : decode cX7_init 86 = .ok (.bipush 12, 2) := dk_16 12 (dk_at dksX7_init_3 15 rfl rfl)
theorem dX7_init_88 : decode cX7_init 88 = .ok (.iastore, 1) := dk_79 (dk_at dksX7_init_3 17 rfl rfl)
theorem dX7_init_89 : decode cX7_init 89 = .ok (.dup, 1) := dk_89 (dk_at dksX7_init_3 18 rfl rfl)
theorem dX7_init_90 : decode cX7_init 90 = .ok (.bipush 8, 2) := dk_16 8 (dk_at dksX7_init_3 19 rfl rfl)
theorem dX7_init_92 : decode cX7_init 92 = .ok (.iconst (-1), 1) := dk_2 (dk_at dksX7_init_3 21 rfl rfl)
theorem dX7_init_93 : decode cX7_init 93 = .ok (.iastore, 1) := dk_79 (dk_at dksX7_init_3 22 rfl rfl)
theorem dX7_init_94 : decode cX7_init 94 = .ok (.dup, 1) := dk_89 (dk_at dksX7_init_3 23 rfl rfl)
theorem dX7_init_95 : decode cX7_init 95 = .ok (.bipush 9, 2) := dk_16 9 (dk_at dksX7_init_4 0 rfl rfl)
theorem dX7_init_97 : decode cX7_init 97 = .ok (.bipush (-30), 2) := dk_16 226 (dk_at dksX7_init_4 2 rfl rfl)
theorem dX7_init_99 : decode cX7_init 99 = .ok (.iastore, 1) := dk_79 (dk_at dksX7_init_4 4 rfl rfl)
theorem dX7_init_100 : decode cX7_init 100 = .ok (.dup, 1) := dk_89 (dk_at dksX7_init_4 5 rfl rfl)
theorem dX7_init_101 : decode cX7_init 101 = .ok (.bipush 10, 2) := dk_16 10 (dk_at dksX7_init_4 6 rfl rfl)
theorem dX7_init_103 : decode cX7_init 103 = .ok (.iconst 2, 1) := dk_5 (dk_at dksX7_init_4 8 rfl rfl)
theorem dX7_init_104 : decode cX7_init 104 = .ok (.iastore, 1) := dk_79 (dk_at dksX7_init_4 9 rfl rfl)
theorem dX7_init_105 : decode cX7_init 105 = .ok (.dup, 1) := dk_89 (dk_at dksX7_init_4 10 rfl rfl)
theorem dX7_init_106 : decode cX7_init 106 = .ok (.bipush 11, 2) := dk_16 11 (dk_at dksX7_init_4 11 rfl rfl)
theorem dX7_init_108 : decode cX7_init 108 = .ok (.iconst 1, 1) := dk_4 (dk_at dksX7_init_4 13 rfl rfl)
theorem dX7_init_109 : decode cX7_init 109 = .ok (.iastore, 1) := dk_79 (dk_at dksX7_init_4 14 rfl rfl)
theorem dX7_init_110 : decode cX7_init 110 = .ok (.dup, 1) := dk_89 (dk_at dksX7_init_4 15 rfl rfl)
theorem dX7_init_111 : decode cX7_init 111 = .ok (.bipush 12, 2) := dk_16 12 (dk_at dksX7_init_4 16 rfl rfl)
theorem dX7_init_113 : decode cX7_init 113 = .ok (.sipush (-180), 3) := dk_17 255 76 (dk_at dksX7_init_4 18 rfl rfl)
theorem dX7_init_116 : decode cX7_init 116 = .ok (.iastore, 1) := dk_79 (dk_at dksX7_init_4 21 rfl rfl)
theorem dX7_init_117 : decode cX7_init 117 = .ok (.dup, 1) := dk_89 (dk_at dksX7_init_4 22 rfl rfl)
theorem dX7_init_118 : decode cX7_init 118 = .ok (.bipush 13, 2) := dk_16 13 (dk_at dksX7_init_5 0 rfl rfl)
theorem dX7_init_120 : decode cX7_init 120 = .ok (.iconst 0, 1) := dk_3 (dk_at dksX7_init_5 2 rfl rfl)
theorem dX7_init_121 : decode cX7_init 121 = .ok (.iastore, 1) := dk_79 (dk_at dksX7_init_5 3 rfl rfl)
theorem dX7_init_122 : decode cX7_init 122 = .ok (.dup, 1) := dk_89 (dk_at dksX7_init_5 4 rfl rfl)
theorem dX7_init_123 : decode cX7_init 123 = .ok (.bipush 14, 2) := dk_16 14 (dk_at dksX7_init_5 5 rfl rfl)
theorem dX7_init_125 : decode cX7_init 125 = .ok (.iconst 3, 1) := dk_6 (dk_at dksX7_init_5 7 rfl rfl)
theorem dX7_init_126 : decode cX7_init 126 = .ok (.iastore, 1) := dk_79 (dk_at dksX7_init_5 8 rfl rfl)
theorem dX7_init_127 : decode cX7_init 127 = .ok (.dup, 1) := dk_89 (dk_at dksX7_init_5 9 rfl rfl)
theorem dX7_init_128 : decode cX7_init 128 = .ok (.bipush 15, 2) := dk_16 15 (dk_at dksX7_init_5 10 rfl rfl)
theorem dX7_init_130 : decode cX7_init 130 = .ok (.iconst 0, 1) := dk_3 (dk_at dksX7_init_5 12 rfl rfl)
theorem dX7_init_131 : decode cX7_init 131 = .ok (.iastore, 1) := dk_79 (dk_at dksX7_init_5 13 rfl rfl)
theorem dX7_init_132 : decode cX7_init 132 = .ok (.putfield 26, 3) := dk_181 0 26 (dk_at dksX7_init_5 14 rfl rfl)
theorem dX7_init_135 : decode cX7_init 135 = .ok (.aload_n 0, 1) := dk_42 (dk_at dksX7_init_5 17 rfl rfl)
theorem dX7_init_136 : decode cX7_init 136 = .ok (.bipush 10, 2) := dk_16 10 (dk_at dksX7_init_5 18 rfl rfl)
theorem dX7_init_138 : decode cX7_init 138 = .ok (.newarray .int, 2) := dk_188_10 (dk_at dksX7_init_5 20 rfl rfl)
theorem dX7_init_140 : decode cX7_init 140 = .ok (.putfield 29, 3) := dk_181 0 29 (dk_at dksX7_init_6 0 rfl rfl)
theorem dX7_init_143 : decode cX7_init 143 = .ok (.aload_n 0, 1) := dk_42 (dk_at dksX7_init_6 3 rfl rfl)
theorem dX7_init_144 : decode cX7_init 144 = .ok (.iconst 4, 1) := dk_7 (dk_at dksX7_init_6 4 rfl rfl)
theorem dX7_init_145 : decode cX7_init 145 = .ok (.newarray .long, 2) := dk_188_11 (dk_at dksX7_init_6 5 rfl rfl)
theorem dX7_init_147 : decode cX7_init 147 = .ok (.dup, 1) := dk_89 (dk_at dksX7_init_6 7 rfl rfl)
theorem dX7_init_148 : decode cX7_init 148 = .ok (.iconst 0, 1) := dk_3 (dk_at dksX7_init_6 8 rfl rfl)
theorem dX7_init_149 : decode cX7_init 149 = .ok (.ldc2_w 32, 3) := dk_20 0 32 (dk_at dksX7_init_6 9 rfl rfl)
theorem dX7_init_152 : decode cX7_init 152 = .ok (.lastore, 1) := dk_80 (dk_at dksX7_init_6 12 rfl rfl)
theorem dX7_init_153 : decode cX7_init 153 = .ok (.dup, 1) := dk_89 (dk_at dksX7_init_6 13 rfl rfl)
theorem dX7_init_154 : decode cX7_init 154 = .ok (.iconst 1, 1) := dk_4 (dk_at dksX7_init_6 14 rfl rfl)
theorem dX7_init_155 : decode cX7_init 155 = .ok (.ldc2_w 34, 3) := dk_20 0 34 (dk_at dksX7_init_6 15 rfl rfl)
theorem dX7_init_158 : decode cX7_init 158 = .ok (.lastore, 1) := dk_80 (dk_at dksX7_init_6 18 rfl rfl)
theorem dX7_init_159 : decode cX7_init 159 = .ok (.dup, 1) := dk_89 (dk_at dksX7_init_6 19 rfl rfl)
theorem dX7_init_160 : decode cX7_init 160 = .ok (.iconst 2, 1) := dk_5 (dk_at dksX7_init_6 20 rfl rfl)
theorem dX7_init_161 : decode cX7_init 161 = .ok (.lconst 1, 1) := dk_10 (dk_at dksX7_init_6 21 rfl rfl)
theorem dX7_init_162 : decode cX7_init 162 = .ok (.lastore, 1) := dk_80 (dk_at dksX7_init_6 22 rfl rfl)
theorem dX7_init_163 : decode cX7_init 163 = .ok (.dup, 1) := dk_89 (dk_at dksX7_init_6 23 rfl rfl)
theorem dX7_init_164 : decode cX7_init 164 = .ok (.iconst 3, 1) := dk_6 (dk_at dksX7_init_7 0 rfl rfl)
theorem dX7_init_165 : decode cX7_init 165 = .ok (.ldc2_w 36, 3) := dk_20 0 36 (dk_at dksX7_init_7 1 rfl rfl)
theorem dX7_init_168 : decode cX7_init 168 = .ok (.lastore, 1) := dk_80 (dk_at dksX7_init_7 4 rfl rfl)
theorem dX7_init_169 : decode cX7_init 169 = .ok (.putfield 38, 3) := dk_181 0 38 (dk_at dksX7_init_7 5 rfl rfl)
theorem dX7_init_172 : decode cX7_init 172 = .ok (.aload_n 0, 1) := dk_42 (dk_at dksX7_init_7 8 rfl rfl)
theorem dX7_init_173 : decode cX7_init 173 = .ok (.sipush 800, 3) := dk_17 3 32 (dk_at dksX7_init_7 9 rfl rfl)
theorem dX7_init_176 : decode cX7_init 176 = .ok (.newarray .int, 2) := dk_188_10 (dk_at dksX7_init_7 12 rfl rfl)
theorem dX7_init_178 : decode cX7_init 178 = .ok (.putfield 42, 3) := dk_181 0 42 (dk_at dksX7_init_7 14 rfl rfl)
theorem dX7_init_181 : decode cX7_init 181 = .ok (.aload_n 0, 1) := dk_42 (dk_at dksX7_init_7 17 rfl rfl)
theorem dX7_init_182 : decode cX7_init 182 = .ok (.sipush 800, 3) := dk_17 3 32 (dk_at dksX7_init_7 18 rfl rfl)
theorem dX7_init_185 : decode cX7_init 185 = .ok (.newarray .int, 2) := dk_188_10 (dk_at dksX7_init_7 21 rfl rfl)
theorem dX7_init_187 : decode cX7_init 187 = .ok (.putfield 45, 3) := dk_181 0 45 (dk_at dksX7_init_8 0 rfl rfl)
theorem dX7_init_190 : decode cX7_init 190 = .ok (.aload_n 0, 1) := dk_42 (dk_at dksX7_init_8 3 rfl rfl)
theorem dX7_init_191 : decode cX7_init 191 = .ok (.iconst (-1), 1) := dk_2 (dk_at dksX7_init_8 4 rfl rfl)
theorem dX7_init_192 : decode cX7_init 192 = .ok (.putfield 48, 3) := dk_181 0 48 (dk_at dksX7_init_8 5 rfl rfl)
theorem dX7_init_195 : decode cX7_init 195 = .ok (.aload_n 0, 1) := dk_42 (dk_at dksX7_init_8 8 rfl rfl)
theorem dX7_init_196 : decode cX7_init 196 = .ok (.iconst 4, 1) := dk_7 (dk_at dksX7_init_8 9 rfl rfl)
theorem dX7_init_197 : decode cX7_init 197 = .ok (.newarray .int, 2) := dk_188_10 (dk_at dksX7_init_8 10 rfl rfl)
theorem dX7_init_199 : decode cX7_init 199 = .ok (.putfield 52, 3) := dk_181 0 52 (dk_at dksX7_init_8 12 rfl rfl)
theorem dX7_init_202 : decode cX7_init 202 = .ok (.aload_n 0, 1) := dk_42 (dk_at dksX7_init_8 15 rfl rfl)
theorem dX7_init_203 : decode cX7_init 203 = .ok (.iconst 4, 1) := dk_7 (dk_at dksX7_init_8 16 rfl rfl)
theorem dX7_init_204 : decode cX7_init 204 = .ok (.newarray .int, 2) := dk_188_10 (dk_at dksX7_init_8 17 rfl rfl)
theorem dX7_init_206 : decode cX7_init 206 = .ok (.putfield 55, 3) := dk_181 0 55 (dk_at dksX7_init_8 19 rfl rfl)
theorem dX7_init_209 : decode cX7_init 209 = .ok (.aload_n 0, 1) := dk_42 (dk_at dksX7_init_8 22 rfl rfl)
theorem dX7_init_210 : decode cX7_init 210 = .ok (.bipush 120, 2) := dk_16 120 (dk_at dksX7_init_9 0 rfl rfl)
theorem dX7_init_212 : decode cX7_init 212 = .ok (.newarray .int, 2) := dk_188_10 (dk_at dksX7_init_9 2 rfl rfl)
theorem dX7_init_214 : decode cX7_init 214 = .ok (.putfield 58, 3) := dk_181 0 58 (dk_at dksX7_init_9 4 rfl rfl)
theorem dX7_init_217 : decode cX7_init 217 = .ok (.aload_n 0, 1) := dk_42 (dk_at dksX7_init_9 7 rfl rfl)
theorem dX7_init_218 : decode cX7_init 218 = .ok (.getfield 7, 3) := dk_180 0 7 (dk_at dksX7_init_9 8 rfl rfl)
theorem dX7_init_221 : decode cX7_init 221 = .ok (.iconst 1, 1) := dk_4 (dk_at dksX7_init_9 11 rfl rfl)
theorem dX7_init_222 : decode cX7_init 222 = .ok (.bipush 18, 2) := dk_16 18 (dk_at dksX7_init_9 12 rfl rfl)
theorem dX7_init_224 : decode cX7_init 224 = .ok (.iastore, 1) := dk_79 (dk_at dksX7_init_9 14 rfl rfl)
theorem dX7_init_225 : decode cX7_init 225 = .ok (.aload_n 0, 1) := dk_42 (dk_at dksX7_init_9 15 rfl rfl)
theorem dX7_init_226 : decode cX7_init 226 = .ok (.getfield 7, 3) := dk_180 0 7 (dk_at dksX7_init_9 16 rfl rfl)
theorem dX7_init_229 : decode cX7_init 229 = .ok (.iconst 2, 1) := dk_5 (dk_at dksX7_init_9 19 rfl rfl)
theorem dX7_init_230 : decode cX7_init 230 = .ok (.bipush 21, 2) := dk_16 21 (dk_at dksX7_init_9 20 rfl rfl)
theorem dX7_init_232 : decode cX7_init 232 = .ok (.iastore, 1) := dk_79 (dk_at dksX7_init_9 22 rfl rfl)
theorem dX7_init_233 : decode cX7_init 233 = .ok (.aload_n 0, 1) := dk_42 (dk_at dksX7_init_9 23 rfl rfl)
theorem dX7_init_234 : decode cX7_init 234 = .ok (.getfield 7, 3) := dk_180 0 7 (dk_at dksX7_init_10 0 rfl rfl)
theorem dX7_init_237 : decode cX7_init 237 = .ok (.iconst 3, 1) := dk_6 (dk_at dksX7_init_10 3 rfl rfl)
theorem dX7_init_238 : decode cX7_init 238 = .ok (.iconst 3, 1) := dk_6 (dk_at dksX7_init_10 4 rfl rfl)
theorem dX7_init_239 : decode cX7_init 239 = .ok (.iastore, 1) := dk_79 (dk_at dksX7_init_10 5 rfl rfl)
theorem dX7_init_240 : decode cX7_init 240 = .ok (.aload_n 0, 1) := dk_42 (dk_at dksX7_init_10 6 rfl rfl)
theorem dX7_init_241 : decode cX7_init 241 = .ok (.getfield 7, 3) := dk_180 0 7 (dk_at dksX7_init_10 7 rfl rfl)
theorem dX7_init_244 : decode cX7_init 244 = .ok (.iconst 4, 1) := dk_7 (dk_at dksX7_init_10 10 rfl rfl)
theorem dX7_init_245 : decode cX7_init 245 = .ok (.iconst 2, 1) := dk_5 (dk_at dksX7_init_10 11 rfl rfl)
theorem dX7_init_246 : decode cX7_init 246 = .ok (.iastore, 1) := dk_79 (dk_at dksX7_init_10 12 rfl rfl)
theorem dX7_init_247 : decode cX7_init 247 = .ok (.aload_n 0, 1) := dk_42 (dk_at dksX7_init_10 13 rfl rfl)
theorem dX7_init_248 : decode cX7_init 248 = .ok (.getfield 7, 3) := dk_180 0 7 (dk_at dksX7_init_10 14 rfl rfl)
theorem dX7_init_251 : decode cX7_init 251 = .ok (.bipush 9, 2) := dk_16 9 (dk_at dksX7_init_10 17 rfl rfl)
theorem dX7_init_253 : decode cX7_init 253 = .ok (.iconst 1, 1) := dk_4 (dk_at dksX7_init_10 19 rfl rfl)
theorem dX7_init_254 : decode cX7_init 254 = .ok (.iastore, 1) := dk_79 (dk_at dksX7_init_10 20 rfl rfl)
theorem dX7_init_255 : decode cX7_init 255 = .ok (.aload_n 0, 1) := dk_42 (dk_at dksX7_init_10 21 rfl rfl)
theorem dX7_init_256 : decode cX7_init 256 = .ok (.getfield 7, 3) := dk_180 0 7 (dk_at dksX7_init_11 0 rfl rfl)
theorem dX7_init_259 : decode cX7_init 259 = .ok (.bipush 10, 2) := dk_16 10 (dk_at dksX7_init_11 3 rfl rfl)
theorem dX7_init_261 : decode cX7_init 261 = .ok (.iconst 1, 1) := dk_4 (dk_at dksX7_init_11 5 rfl rfl)
theorem dX7_init_262 : decode cX7_init 262 = .ok (.iastore, 1) := dk_79 (dk_at dksX7_init_11 6 rfl rfl)
theorem dX7_init_263 : decode cX7_init 263 = .ok (.aload_n 0, 1) := dk_42 (dk_at dksX7_init_11 7 rfl rfl)
theorem dX7_init_264 : decode cX7_init 264 = .ok (.getfield 7, 3) := dk_180 0 7 (dk_at dksX7_init_11 8 rfl rfl)
theorem dX7_init_267 : decode cX7_init 267 = .ok (.bipush 11, 2) := dk_16 11 (dk_at dksX7_init_11 11 rfl rfl)
theorem dX7_init_269 : decode cX7_init 269 = .ok (.iconst 2, 1) := dk_5 (dk_at dksX7_init_11 13 rfl rfl)
theorem dX7_init_270 : decode cX7_init 270 = .ok (.iastore, 1) := dk_79 (dk_at dksX7_init_11 14 rfl rfl)
theorem dX7_init_271 : decode cX7_init 271 = .ok (.aload_n 0, 1) := dk_42 (dk_at dksX7_init_11 15 rfl rfl)
theorem dX7_init_272 : decode cX7_init 272 = .ok (.getfield 7, 3) := dk_180 0 7 (dk_at dksX7_init_11 16 rfl rfl)
theorem dX7_init_275 : decode cX7_init 275 = .ok (.bipush 12, 2) := dk_16 12 (dk_at dksX7_init_11 19 rfl rfl)
theorem dX7_init_277 : decode cX7_init 277 = .ok (.iconst 3, 1) := dk_6 (dk_at dksX7_init_11 21 rfl rfl)
theorem dX7_init_278 : decode cX7_init 278 = .ok (.iastore, 1) := dk_79 (dk_at dksX7_init_11 22 rfl rfl)
theorem dX7_init_279 : decode cX7_init 279 = .ok (.aload_n 0, 1) := dk_42 (dk_at dksX7_init_11 23 rfl rfl)
theorem dX7_init_280 : decode cX7_init 280 = .ok (.sipush 1486, 3) := dk_17 5 206 (dk_at dksX7_init_12 0 rfl rfl)
theorem dX7_init_283 : decode cX7_init 283 = .ok (.iconst 4, 1) := dk_7 (dk_at dksX7_init_12 3 rfl rfl)
theorem dX7_init_284 : decode cX7_init 284 = .ok (.invokevirtual 61, 3) := dk_182 0 61 (dk_at dksX7_init_12 4 rfl rfl)
theorem dX7_init_287 : decode cX7_init 287 = .ok (.aload_n 0, 1) := dk_42 (dk_at dksX7_init_12 7 rfl rfl)
theorem dX7_init_288 : decode cX7_init 288 = .ok (.sipush 2530, 3) := dk_17 9 226 (dk_at dksX7_init_12 8 rfl rfl)
theorem dX7_init_291 : decode cX7_init 291 = .ok (.iconst 2, 1) := dk_5 (dk_at dksX7_init_12 11 rfl rfl)
theorem dX7_init_292 : decode cX7_init 292 = .ok (.invokevirtual 61, 3) := dk_182 0 61 (dk_at dksX7_init_12 12 rfl rfl)
theorem dX7_init_295 : decode cX7_init 295 = .ok (.aload_n 0, 1) := dk_42 (dk_at dksX7_init_12 15 rfl rfl)
theorem dX7_init_296 : decode cX7_init 296 = .ok (.sipush 3124, 3) := dk_17 12 52 (dk_at dksX7_init_12 16 rfl rfl)
theorem dX7_init_299 : decode cX7_init 299 = .ok (.iconst 4, 1) := dk_7 (dk_at dksX7_init_12 19 rfl rfl)
theorem dX7_init_300 : decode cX7_init 300 = .ok (.invokevirtual 61, 3) := dk_182 0 61 (dk_at dksX7_init_12 20 rfl rfl)
theorem dX7_init_303 : decode cX7_init 303 = .ok (.aload_n 0, 1) := dk_42 (dk_at dksX7_init_12 23 rfl rfl)
theorem dX7_init_304 : decode cX7_init 304 = .ok (.sipush 4142, 3) := dk_17 16 46 (dk_at dksX7_init_13 0 rfl rfl)
theorem dX7_init_307 : decode cX7_init 307 = .ok (.iconst 4, 1) := dk_7 (dk_at dksX7_init_13 3 rfl rfl)
theorem dX7_init_308 : decode cX7_init 308 = .ok (.invokevirtual 61, 3) := dk_182 0 61 (dk_at dksX7_init_13 4 rfl rfl)
theorem dX7_init_311 : decode cX7_init 311 = .ok (.iconst 0, 1) := dk_3 (dk_at dksX7_init_13 7 rfl rfl)
theorem dX7_init_312 : decode cX7_init 312 = .ok (.istore_n 1, 1) := dk_60 (dk_at dksX7_init_13 8 rfl rfl)
theorem dX7_init_313 : decode cX7_init 313 = .ok (.iload_n 1, 1) := dk_27 (dk_at dksX7_init_13 9 rfl rfl)
theorem dX7_init_314 : decode cX7_init 314 = .ok (.bipush 16, 2) := dk_16 16 (dk_at dksX7_init_13 10 rfl rfl)
theorem dX7_init_316 : decode cX7_init 316 = .ok (.if_icmp .ge 32, 3) := dk_162 0 32 (dk_at dksX7_init_13 12 rfl rfl)
theorem dX7_init_319 : decode cX7_init 319 = .ok (.aload_n 0, 1) := dk_42 (dk_at dksX7_init_13 15 rfl rfl)
theorem dX7_init_320 : decode cX7_init 320 = .ok (.getfield 7, 3) := dk_180 0 7 (dk_at dksX7_init_13 16 rfl rfl)
theorem dX7_init_323 : decode cX7_init 323 = .ok (.iload_n 1, 1) := dk_27 (dk_at dksX7_init_13 19 rfl rfl)
theorem dX7_init_324 : decode cX7_init 324 = .ok (.iconst 4, 1) := dk_7 (dk_at dksX7_init_13 20 rfl rfl)
theorem dX7_init_325 : decode cX7_init 325 = .ok (.idiv, 1) := dk_108 (dk_at dksX7_init_13 21 rfl rfl)
theorem dX7_init_326 : decode cX7_init 326 = .ok (.bipush 9, 2) := dk_16 9 (dk_at dksX7_init_13 22 rfl rfl)
theorem dX7_init_328 : decode cX7_init 328 = .ok (.iload_n 1, 1) := dk_27 (dk_at dksX7_init_14 0 rfl rfl)
theorem dX7_init_329 : decode cX7_init 329 = .ok (.iconst 4, 1) := dk_7 (dk_at dksX7_init_14 1 rfl rfl)
theorem dX7_init_330 : decode cX7_init 330 = .ok (.irem, 1) := dk_112 (dk_at dksX7_init_14 2 rfl rfl)
theorem dX7_init_331 : decode cX7_init 331 = .ok (.iadd, 1) := dk_96 (dk_at dksX7_init_14 3 rfl rfl)
theorem dX7_init_332 : decode cX7_init 332 = .ok (.invokestatic 65, 3) := dk_184 0 65 (dk_at dksX7_init_14 4 rfl rfl)
theorem dX7_init_335 : decode cX7_init 335 = .ok (.aload_n 0, 1) := dk_42 (dk_at dksX7_init_14 7 rfl rfl)
theorem dX7_init_336 : decode cX7_init 336 = .ok (.getfield 26, 3) := dk_180 0 26 (dk_at dksX7_init_14 8 rfl rfl)
theorem dX7_init_339 : decode cX7_init 339 = .ok (.iload_n 1, 1) := dk_27 (dk_at dksX7_init_14 11 rfl rfl)
theorem dX7_init_340 : decode cX7_init 340 = .ok (.iaload, 1) := dk_46 (dk_at dksX7_init_14 12 rfl rfl)
theorem dX7_init_341 : decode cX7_init 341 = .ok (.iastore, 1) := dk_79 (dk_at dksX7_init_14 13 rfl rfl)
theorem dX7_init_342 : decode cX7_init 342 = .ok (.iinc 1 1, 3) := dk_132 1 1 (dk_at dksX7_init_14 14 rfl rfl)
theorem dX7_init_345 : decode cX7_init 345 = .ok (.goto (-32), 3) := dk_167 255 224 (dk_at dksX7_init_14 17 rfl rfl)
theorem dX7_init_348 : decode cX7_init 348 = .ok (.aload_n 0, 1) := dk_42 (dk_at dksX7_init_14 20 rfl rfl)
theorem dX7_init_349 : decode cX7_init 349 = .ok (.getfield 7, 3) := dk_180 0 7 (dk_at dksX7_init_14 21 rfl rfl)
theorem dX7_init_352 : decode cX7_init 352 = .ok (.iconst 1, 1) := dk_4 (dk_at dksX7_init_15 0 rfl rfl)
theorem dX7_init_353 : decode cX7_init 353 = .ok (.bipush 18, 2) := dk_16 18 (dk_at dksX7_init_15 1 rfl rfl)
theorem dX7_init_355 : decode cX7_init 355 = .ok (.invokestatic 65, 3) := dk_184 0 65 (dk_at dksX7_init_15 3 rfl rfl)
theorem dX7_init_358 : decode cX7_init 358 = .ok (.bipush 8, 2) := dk_16 8 (dk_at dksX7_init_15 6 rfl rfl)
theorem dX7_init_360 : decode cX7_init 360 = .ok (.iastore, 1) := dk_79 (dk_at dksX7_init_15 8 rfl rfl)
theorem dX7_init_361 : decode cX7_init 361 = .ok (.aload_n 0, 1) := dk_42 (dk_at dksX7_init_15 9 rfl rfl)
theorem dX7_init_362 : decode cX7_init 362 = .ok (.getfield 7, 3) := dk_180 0 7 (dk_at dksX7_init_15 10 rfl rfl)
theorem dX7_init_365 : decode cX7_init 365 = .ok (.iconst 1, 1) := dk_4 (dk_at dksX7_init_15 13 rfl rfl)
theorem dX7_init_366 : decode cX7_init 366 = .ok (.bipush 19, 2) := dk_16 19 (dk_at dksX7_init_15 14 rfl rfl)
theorem dX7_init_368 : decode cX7_init 368 = .ok (.invokestatic 65, 3) := dk_184 0 65 (dk_at dksX7_init_15 16 rfl rfl)
theorem dX7_init_371 : decode cX7_init 371 = .ok (.iconst 2, 1) := dk_5 (dk_at dksX7_init_15 19 rfl rfl)
theorem dX7_init_372 : decode cX7_init 372 = .ok (.iastore, 1) := dk_79 (dk_at dksX7_init_15 20 rfl rfl)
theorem dX7_init_373 : decode cX7_init 373 = .ok (.aload_n 0, 1) := dk_42 (dk_at dksX7_init_15 21 rfl rfl)
theorem dX7_init_374 : decode cX7_init 374 = .ok (.getfield 7, 3) := dk_180 0 7 (dk_at dksX7_init_16 0 rfl rfl)
theorem dX7_init_377 : decode cX7_init 377 = .ok (.iconst 1, 1) := dk_4 (dk_at dksX7_init_16 3 rfl rfl)
theorem dX7_init_378 : decode cX7_init 378 = .ok (.bipush 20, 2) := dk_16 20 (dk_at dksX7_init_16 4 rfl rfl)
theorem dX7_init_380 : decode cX7_init 380 = .ok (.invokestatic 65, 3) := dk_184 0 65 (dk_at dksX7_init_16 6 rfl rfl)
theorem dX7_init_383 : decode cX7_init 383 = .ok (.iconst 4, 1) := dk_7 (dk_at dksX7_init_16 9 rfl rfl)
theorem dX7_init_384 : decode cX7_init 384 = .ok (.iastore, 1) := dk_79 (dk_at dksX7_init_16 10 rfl rfl)
theorem dX7_init_385 : decode cX7_init 385 = .ok (.aload_n 0, 1) := dk_42 (dk_at dksX7_init_16 11 rfl rfl)
theorem dX7_init_386 : decode cX7_init 386 = .ok (.invokevirtual 69, 3) := dk_182 0 69 (dk_at dksX7_init_16 12 rfl rfl)
theorem dX7_init_389 : decode cX7_init 389 = .ok (.return_, 1) := dk_177 (dk_at dksX7_init_16 15 rfl rfl)
abbrev iX7_init : xM := (yX7_init, cX7_init, 2, none, [])
theorem mX7_init : xOkM iX7_init := ⟨by decide +kernel, by decide, q3509, q175⟩
abbrev cX7_comes : ByteArray := prog_15_method_12_code
def yX7_comes : MethodName := ⟨RX7, "comes", "(II)V"⟩
def dkwX7_comes_4 : List UInt8 := [46, 96, 29, 79, 42, 180, 0, 7, 16, 14, 92, 46, 4, 96, 79, 177]
abbrev dktX7_comes_4 : List UInt8 := dkwX7_comes_4 ++ []
def dkwX7_comes_3 : List UInt8 := [184, 0, 65, 16, 9, 79, 132, 4, 1, 167, 255, 231, 42, 180, 0, 7, 16, 20, 42, 180, 0, 7, 16, 14]
abbrev dktX7_comes_3 : List UInt8 := dkwX7_comes_3 ++ dktX7_comes_4
def dkwX7_comes_2 : List UInt8 := [184, 0, 65, 2, 79, 3, 54, 4, 21, 4, 7, 162, 0, 25, 42, 180, 0, 7, 29, 16, 17, 21, 4, 96]
abbrev dktX7_comes_2 : List UInt8 := dkwX7_comes_2 ++ dktX7_comes_3
def dkwX7_comes_1 : List UInt8 := [3, 184, 0, 65, 27, 79, 42, 180, 0, 7, 29, 4, 184, 0, 65, 28, 79, 42, 180, 0, 7, 29, 6]
abbrev dktX7_comes_1 : List UInt8 := dkwX7_comes_1 ++ dktX7_comes_2
def dkwX7_comes_0 : List UInt8 := [42, 180, 0, 7, 16, 13, 46, 62, 42, 180, 0, 7, 16, 13, 92, 46, 4, 96, 79, 42, 180, 0, 7, 29]
abbrev dktX7_comes_0 : List UInt8 := dkwX7_comes_0 ++ dktX7_comes_1
theorem dksX7_comes_0 : cX7_comes.data.toList.drop 0 = dktX7_comes_0 := by decide +kernel
theorem dksX7_comes_1 : cX7_comes.data.toList.drop 24 = dktX7_comes_1 := dk_seg dksX7_comes_0 24 rfl rfl
theorem dksX7_comes_2 : cX7_comes.data.toList.drop 47 = dktX7_comes_2 := dk_seg dksX7_comes_1 23 rfl rfl
theorem dksX7_comes_3 : cX7_comes.data.toList.drop 71 = dktX7_comes_3 := dk_seg dksX7_comes_2 24 rfl rfl
theorem dksX7_comes_4 : cX7_comes.data.toList.drop 95 = dktX7_comes_4 := dk_seg dksX7_comes_3 24 rfl rfl
theorem dX7_comes_0 : decode cX7_comes 0 = .ok (.aload_n 0, 1) := dk_42 (dk_at dksX7_comes_0 0 rfl rfl)
theorem dX7_comes_1 : decode cX7_comes 1 = .ok (.getfield 7, 3) := dk_180 0 7 (dk_at dksX7_comes_0 1 rfl rfl)
theorem dX7_comes_4 : decode cX7_comes 4 = .ok (.bipush 13, 2) := dk_16 13 (dk_at dksX7_comes_0 4 rfl rfl)
theorem dX7_comes_6 : decode cX7_comes 6 = .ok (.iaload, 1) := dk_46 (dk_at dksX7_comes_0 6 rfl rfl)
theorem dX7_comes_7 : decode cX7_comes 7 = .ok (.istore_n 3, 1) := dk_62 (dk_at dksX7_comes_0 7 rfl rfl)
theorem dX7_comes_8 : decode cX7_comes 8 = .ok (.aload_n 0, 1) := dk_42 (dk_at dksX7_comes_0 8 rfl rfl)
theorem dX7_comes_9 : decode cX7_comes 9 = .ok (.getfield 7, 3) := dk_180 0 7 (dk_at dksX7_comes_0 9 rfl rfl)
theorem dX7_comes_12 : decode cX7_comes 12 = .ok (.bipush 13, 2) := dk_16 13 (dk_at dksX7_comes_0 12 rfl rfl)
theorem dX7_comes_14 : decode cX7_comes 14 = .ok (.dup2, 1) := dk_92 (dk_at dksX7_comes_0 14 rfl rfl)
theorem dX7_comes_15 : decode cX7_comes 15 = .ok (.iaload, 1) := dk_46 (dk_at dksX7_comes_0 15 rfl rfl)
theorem dX7_comes_16 : decode cX7_comes 16 = .ok (.iconst 1, 1) := dk_4 (dk_at dksX7_comes_0 16 rfl rfl)
theorem dX7_comes_17 : decode cX7_comes 17 = .ok (.iadd, 1) := dk_96 (dk_at dksX7_comes_0 17 rfl rfl)
theorem dX7_comes_18 : decode cX7_comes 18 = .ok (.iastore, 1) := dk_79 (dk_at dksX7_comes_0 18 rfl rfl)
theorem dX7_comes_19 : decode cX7_comes 19 = .ok (.aload_n 0, 1) := dk_42 (dk_at dksX7_comes_0 19 rfl rfl)
theorem dX7_comes_20 : decode cX7_comes 20 = .ok (.getfield 7, 3) := dk_180 0 7 (dk_at dksX7_comes_0 20 rfl rfl)
theorem dX7_comes_23 : decode cX7_comes 23 = .ok (.iload_n 3, 1) := dk_29 (dk_at dksX7_comes_0 23 rfl rfl)
theorem dX7_comes_24 : decode cX7_comes 24 = .ok (.iconst 0, 1) := dk_3 (dk_at dksX7_comes_1 0 rfl rfl)
theorem dX7_comes_25 : decode cX7_comes 25 = .ok (.invokestatic 65, 3) := dk_184 0 65 (dk_at dksX7_comes_1 1 rfl rfl)
theorem dX7_comes_28 : decode cX7_comes 28 = .ok (.iload_n 1, 1) := dk_27 (dk_at dksX7_comes_1 4 rfl rfl)
theorem dX7_comes_29 : decode cX7_comes 29 = .ok (.iastore, 1) := dk_79 (dk_at dksX7_comes_1 5 rfl rfl)
theorem dX7_comes_30 : decode cX7_comes 30 = .ok (.aload_n 0, 1) := dk_42 (dk_at dksX7_comes_1 6 rfl rfl)
theorem dX7_comes_31 : decode cX7_comes 31 = .ok (.getfield 7, 3) := dk_180 0 7 (dk_at dksX7_comes_1 7 rfl rfl)
theorem dX7_comes_34 : decode cX7_comes 34 = .ok (.iload_n 3, 1) := dk_29 (dk_at dksX7_comes_1 10 rfl rfl)
theorem dX7_comes_35 : decode cX7_comes 35 = .ok (.iconst 1, 1) := dk_4 (dk_at dksX7_comes_1 11 rfl rfl)
theorem dX7_comes_36 : decode cX7_comes 36 = .ok (.invokestatic 65, 3) := dk_184 0 65 (dk_at dksX7_comes_1 12 rfl rfl)
theorem dX7_comes_39 : decode cX7_comes 39 = .ok (.iload_n 2, 1) := dk_28 (dk_at dksX7_comes_1 15 rfl rfl)
theorem dX7_comes_40 : decode cX7_comes 40 = .ok (.iastore, 1) := dk_79 (dk_at dksX7_comes_1 16 rfl rfl)
theorem dX7_comes_41 : decode cX7_comes 41 = .ok (.aload_n 0, 1) := dk_42 (dk_at dksX7_comes_1 17 rfl rfl)
theorem dX7_comes_42 : decode cX7_comes 42 = .ok (.getfield 7, 3) := dk_180 0 7 (dk_at dksX7_comes_1 18 rfl rfl)
theorem dX7_comes_45 : decode cX7_comes 45 = .ok (.iload_n 3, 1) := dk_29 (dk_at dksX7_comes_1 21 rfl rfl)
theorem dX7_comes_46 : decode cX7_comes 46 = .ok (.iconst 3, 1) := dk_6 (dk_at dksX7_comes_1 22 rfl rfl)
theorem dX7_comes_47 : decode cX7_comes 47 = .ok (.invokestatic 65, 3) := dk_184 0 65 (dk_at dksX7_comes_2 0 rfl rfl)
theorem dX7_comes_50 : decode cX7_comes 50 = .ok (.iconst (-1), 1) := dk_2 (dk_at dksX7_comes_2 3 rfl rfl)
theorem dX7_comes_51 : decode cX7_comes 51 = .ok (.iastore, 1) := dk_79 (dk_at dksX7_comes_2 4 rfl rfl)
theorem dX7_comes_52 : decode cX7_comes 52 = .ok (.iconst 0, 1) := dk_3 (dk_at dksX7_comes_2 5 rfl rfl)
theorem dX7_comes_53 : decode cX7_comes 53 = .ok (.istore 4, 2) := dk_54 4 (dk_at dksX7_comes_2 6 rfl rfl)
theorem dX7_comes_55 : decode cX7_comes 55 = .ok (.iload 4, 2) := dk_21 4 (dk_at dksX7_comes_2 8 rfl rfl)
theorem dX7_comes_57 : decode cX7_comes 57 = .ok (.iconst 4, 1) := dk_7 (dk_at dksX7_comes_2 10 rfl rfl)
theorem dX7_comes_58 : decode cX7_comes 58 = .ok (.if_icmp .ge 25, 3) := dk_162 0 25 (dk_at dksX7_comes_2 11 rfl rfl)
theorem dX7_comes_61 : decode cX7_comes 61 = .ok (.aload_n 0, 1) := dk_42 (dk_at dksX7_comes_2 14 rfl rfl)
theorem dX7_comes_62 : decode cX7_comes 62 = .ok (.getfield 7, 3) := dk_180 0 7 (dk_at dksX7_comes_2 15 rfl rfl)
theorem dX7_comes_65 : decode cX7_comes 65 = .ok (.iload_n 3, 1) := dk_29 (dk_at dksX7_comes_2 18 rfl rfl)
theorem dX7_comes_66 : decode cX7_comes 66 = .ok (.bipush 17, 2) := dk_16 17 (dk_at dksX7_comes_2 19 rfl rfl)
theorem dX7_comes_68 : decode cX7_comes 68 = .ok (.iload 4, 2) := dk_21 4 (dk_at dksX7_comes_2 21 rfl rfl)
theorem dX7_comes_70 : decode cX7_comes 70 = .ok (.iadd, 1) := dk_96 (dk_at dksX7_comes_2 23 rfl rfl)
theorem dX7_comes_71 : decode cX7_comes 71 = .ok (.invokestatic 65, 3) := dk_184 0 65 (dk_at dksX7_comes_3 0 rfl rfl)
theorem dX7_comes_74 : decode cX7_comes 74 = .ok (.bipush 9, 2) := dk_16 9 (dk_at dksX7_comes_3 3 rfl rfl)
theorem dX7_comes_76 : decode cX7_comes 76 = .ok (.iastore, 1) := dk_79 (dk_at dksX7_comes_3 5 rfl rfl)
theorem dX7_comes_77 : decode cX7_comes 77 = .ok (.iinc 4 1, 3) := dk_132 4 1 (dk_at dksX7_comes_3 6 rfl rfl)
theorem dX7_comes_80 : decode cX7_comes 80 = .ok (.goto (-25), 3) := dk_167 255 231 (dk_at dksX7_comes_3 9 rfl rfl)
theorem dX7_comes_83 : decode cX7_comes 83 = .ok (.aload_n 0, 1) := dk_42 (dk_at dksX7_comes_3 12 rfl rfl)
theorem dX7_comes_84 : decode cX7_comes 84 = .ok (.getfield 7, 3) := dk_180 0 7 (dk_at dksX7_comes_3 13 rfl rfl)
theorem dX7_comes_87 : decode cX7_comes 87 = .ok (.bipush 20, 2) := dk_16 20 (dk_at dksX7_comes_3 16 rfl rfl)
theorem dX7_comes_89 : decode cX7_comes 89 = .ok (.aload_n 0, 1) := dk_42 (dk_at dksX7_comes_3 18 rfl rfl)
theorem dX7_comes_90 : decode cX7_comes 90 = .ok (.getfield 7, 3) := dk_180 0 7 (dk_at dksX7_comes_3 19 rfl rfl)
theorem dX7_comes_93 : decode cX7_comes 93 = .ok (.bipush 14, 2) := dk_16 14 (dk_at dksX7_comes_3 22 rfl rfl)
theorem dX7_comes_95 : decode cX7_comes 95 = .ok (.iaload, 1) := dk_46 (dk_at dksX7_comes_4 0 rfl rfl)
theorem dX7_comes_96 : decode cX7_comes 96 = .ok (.iadd, 1) := dk_96 (dk_at dksX7_comes_4 1 rfl rfl)
theorem dX7_comes_97 : decode cX7_comes 97 = .ok (.iload_n 3, 1) := dk_29 (dk_at dksX7_comes_4 2 rfl rfl)
theorem dX7_comes_98 : decode cX7_comes 98 = .ok (.iastore, 1) := dk_79 (dk_at dksX7_comes_4 3 rfl rfl)
theorem dX7_comes_99 : decode cX7_comes 99 = .ok (.aload_n 0, 1) := dk_42 (dk_at dksX7_comes_4 4 rfl rfl)
theorem dX7_comes_100 : decode cX7_comes 100 = .ok (.getfield 7, 3) := dk_180 0 7 (dk_at dksX7_comes_4 5 rfl rfl)
theorem dX7_comes_103 : decode cX7_comes 103 = .ok (.bipush 14, 2) := dk_16 14 (dk_at dksX7_comes_4 8 rfl rfl)
theorem dX7_comes_105 : decode cX7_comes 105 = .ok (.dup2, 1) := dk_92 (dk_at dksX7_comes_4 10 rfl rfl)
theorem dX7_comes_106 : decode cX7_comes 106 = .ok (.iaload, 1) := dk_46 (dk_at dksX7_comes_4 11 rfl rfl)
theorem dX7_comes_107 : decode cX7_comes 107 = .ok (.iconst 1, 1) := dk_4 (dk_at dksX7_comes_4 12 rfl rfl)
theorem dX7_comes_108 : decode cX7_comes 108 = .ok (.iadd, 1) := dk_96 (dk_at dksX7_comes_4 13 rfl rfl)
theorem dX7_comes_109 : decode cX7_comes 109 = .ok (.iastore, 1) := dk_79 (dk_at dksX7_comes_4 14 rfl rfl)
theorem dX7_comes_110 : decode cX7_comes 110 = .ok (.return_, 1) := dk_177 (dk_at dksX7_comes_4 15 rfl rfl)
abbrev iX7_comes : xM := (yX7_comes, cX7_comes, 5, none, [])
theorem mX7_comes : xOkM iX7_comes := ⟨by decide +kernel, by decide, q3517, q175⟩
abbrev cX7_at : ByteArray := prog_15_method_9_code
def yX7_at : MethodName := ⟨RX7, "at", "(II)I"⟩
def dkwX7_at_0 : List UInt8 := [16, 70, 16, 21, 26, 104, 96, 27, 96, 172]
abbrev dktX7_at_0 : List UInt8 := dkwX7_at_0 ++ []
theorem dksX7_at_0 : cX7_at.data.toList.drop 0 = dktX7_at_0 := by decide +kernel
theorem dX7_at_0 : decode cX7_at 0 = .ok (.bipush 70, 2) := dk_16 70 (dk_at dksX7_at_0 0 rfl rfl)
theorem dX7_at_2 : decode cX7_at 2 = .ok (.bipush 21, 2) := dk_16 21 (dk_at dksX7_at_0 2 rfl rfl)
theorem dX7_at_4 : decode cX7_at 4 = .ok (.iload_n 0, 1) := dk_26 (dk_at dksX7_at_0 4 rfl rfl)
theorem dX7_at_5 : decode cX7_at 5 = .ok (.imul, 1) := dk_104 (dk_at dksX7_at_0 5 rfl rfl)
theorem dX7_at_6 : decode cX7_at 6 = .ok (.iadd, 1) := dk_96 (dk_at dksX7_at_0 6 rfl rfl)
theorem dX7_at_7 : decode cX7_at 7 = .ok (.iload_n 1, 1) := dk_27 (dk_at dksX7_at_0 7 rfl rfl)
theorem dX7_at_8 : decode cX7_at 8 = .ok (.iadd, 1) := dk_96 (dk_at dksX7_at_0 8 rfl rfl)
theorem dX7_at_9 : decode cX7_at 9 = .ok (.ireturn, 1) := dk_172 (dk_at dksX7_at_0 9 rfl rfl)
abbrev iX7_at : xM := (yX7_at, cX7_at, 2, (some .int), [])
theorem mX7_at : xOkM iX7_at := ⟨by decide +kernel, by decide, q3520, q175⟩
abbrev cX7_stores : ByteArray := prog_15_method_13_code
def yX7_stores : MethodName := ⟨RX7, "stores", "()V"⟩
def dkwX7_stores_1 : List UInt8 := [79, 177]
abbrev dktX7_stores_1 : List UInt8 := dkwX7_stores_1 ++ []
def dkwX7_stores_0 : List UInt8 := [42, 180, 0, 7, 8, 42, 180, 0, 7, 6, 46, 79, 42, 180, 0, 7, 16, 6, 42, 180, 0, 7, 7, 46]
abbrev dktX7_stores_0 : List UInt8 := dkwX7_stores_0 ++ dktX7_stores_1
theorem dksX7_stores_0 : cX7_stores.data.toList.drop 0 = dktX7_stores_0 := by decide +kernel
theorem dksX7_stores_1 : cX7_stores.data.toList.drop 24 = dktX7_stores_1 := dk_seg dksX7_stores_0 24 rfl rfl
theorem dX7_stores_0 : decode cX7_stores 0 = .ok (.aload_n 0, 1) := dk_42 (dk_at dksX7_stores_0 0 rfl rfl)
theorem dX7_stores_1 : decode cX7_stores 1 = .ok (.getfield 7, 3) := dk_180 0 7 (dk_at dksX7_stores_0 1 rfl rfl)
theorem dX7_stores_4 : decode cX7_stores 4 = .ok (.iconst 5, 1) := dk_8 (dk_at dksX7_stores_0 4 rfl rfl)
theorem dX7_stores_5 : decode cX7_stores 5 = .ok (.aload_n 0, 1) := dk_42 (dk_at dksX7_stores_0 5 rfl rfl)
theorem dX7_stores_6 : decode cX7_stores 6 = .ok (.getfield 7, 3) := dk_180 0 7 (dk_at dksX7_stores_0 6 rfl rfl)
theorem dX7_stores_9 : decode cX7_stores 9 = .ok (.iconst 3, 1) := dk_6 (dk_at dksX7_stores_0 9 rfl rfl)
theorem dX7_stores_10 : decode cX7_stores 10 = .ok (.iaload, 1) := dk_46 (dk_at dksX7_stores_0 10 rfl rfl)
theorem dX7_stores_11 : decode cX7_stores 11 = .ok (.iastore, 1) := dk_79 (dk_at dksX7_stores_0 11 rfl rfl)
theorem dX7_stores_12 : decode cX7_stores 12 = .ok (.aload_n 0, 1) := dk_42 (dk_at dksX7_stores_0 12 rfl rfl)
theorem dX7_stores_13 : decode cX7_stores 13 = .ok (.getfield 7, 3) := dk_180 0 7 (dk_at dksX7_stores_0 13 rfl rfl)
theorem dX7_stores_16 : decode cX7_stores 16 = .ok (.bipush 6, 2) := dk_16 6 (dk_at dksX7_stores_0 16 rfl rfl)
theorem dX7_stores_18 : decode cX7_stores 18 = .ok (.aload_n 0, 1) := dk_42 (dk_at dksX7_stores_0 18 rfl rfl)
theorem dX7_stores_19 : decode cX7_stores 19 = .ok (.getfield 7, 3) := dk_180 0 7 (dk_at dksX7_stores_0 19 rfl rfl)
theorem dX7_stores_22 : decode cX7_stores 22 = .ok (.iconst 4, 1) := dk_7 (dk_at dksX7_stores_0 22 rfl rfl)
theorem dX7_stores_23 : decode cX7_stores 23 = .ok (.iaload, 1) := dk_46 (dk_at dksX7_stores_0 23 rfl rfl)
theorem dX7_stores_24 : decode cX7_stores 24 = .ok (.iastore, 1) := dk_79 (dk_at dksX7_stores_1 0 rfl rfl)
theorem dX7_stores_25 : decode cX7_stores 25 = .ok (.return_, 1) := dk_177 (dk_at dksX7_stores_1 1 rfl rfl)
abbrev iX7_stores : xM := (yX7_stores, cX7_stores, 1, none, [])
theorem mX7_stores : xOkM iX7_stores := ⟨by decide +kernel, by decide, q3524, q175⟩
abbrev cX7_thrown : ByteArray := prog_15_method_2_code
def yX7_thrown : MethodName := ⟨RX7, "thrown", "()I"⟩
theorem dX7_thrown_0 : decode cX7_thrown 0 = .ok (.aload_n 0, 1) := by decide +kernel
theorem dX7_thrown_1 : decode cX7_thrown 1 = .ok (.getfield 72, 3) := by decide +kernel
theorem dX7_thrown_4 : decode cX7_thrown 4 = .ok (.ireturn, 1) := by decide +kernel
abbrev iX7_thrown : xM := (yX7_thrown, cX7_thrown, 1, (some .int), [])
theorem mX7_thrown : xOkM iX7_thrown := ⟨by decide +kernel, by decide, q3627, q175⟩
abbrev cX7_append : ByteArray := prog_15_method_40_code
def yX7_append : MethodName := ⟨RX7, "append", "(IIIII)I"⟩
def dkwX7_append_3 : List UInt8 := [42, 29, 182, 0, 140, 42, 21, 4, 182, 0, 140, 42, 21, 5, 182, 0, 140, 42, 180, 0, 130, 172]
abbrev dktX7_append_3 : List UInt8 := dkwX7_append_3 ++ []
def dkwX7_append_2 : List UInt8 := [4, 167, 0, 4, 3, 4, 182, 0, 136, 153, 0, 5, 3, 172, 42, 27, 182, 0, 140, 42, 28, 182, 0, 140]
abbrev dktX7_append_2 : List UInt8 := dkwX7_append_2 ++ dktX7_append_3
def dkwX7_append_1 : List UInt8 := [182, 0, 133, 96, 42, 21, 4, 182, 0, 133, 96, 42, 21, 5, 182, 0, 133, 96, 17, 3, 32, 164, 0, 7]
abbrev dktX7_append_1 : List UInt8 := dkwX7_append_1 ++ dktX7_append_2
def dkwX7_append_0 : List UInt8 := [42, 3, 181, 0, 72, 42, 42, 180, 0, 130, 42, 27, 182, 0, 133, 96, 42, 28, 182, 0, 133, 96, 42, 29]
abbrev dktX7_append_0 : List UInt8 := dkwX7_append_0 ++ dktX7_append_1
theorem dksX7_append_0 : cX7_append.data.toList.drop 0 = dktX7_append_0 := by decide +kernel
theorem dksX7_append_1 : cX7_append.data.toList.drop 24 = dktX7_append_1 := dk_seg dksX7_append_0 24 rfl rfl
theorem dksX7_append_2 : cX7_append.data.toList.drop 48 = dktX7_append_2 := dk_seg dksX7_append_1 24 rfl rfl
theorem dksX7_append_3 : cX7_append.data.toList.drop 72 = dktX7_append_3 := dk_seg dksX7_append_2 24 rfl rfl
theorem dX7_append_0 : decode cX7_append 0 = .ok (.aload_n 0, 1) := dk_42 (dk_at dksX7_append_0 0 rfl rfl)
theorem dX7_append_1 : decode cX7_append 1 = .ok (.iconst 0, 1) := dk_3 (dk_at dksX7_append_0 1 rfl rfl)
theorem dX7_append_2 : decode cX7_append 2 = .ok (.putfield 72, 3) := dk_181 0 72 (dk_at dksX7_append_0 2 rfl rfl)
theorem dX7_append_5 : decode cX7_append 5 = .ok (.aload_n 0, 1) := dk_42 (dk_at dksX7_append_0 5 rfl rfl)
theorem dX7_append_6 : decode cX7_append 6 = .ok (.aload_n 0, 1) := dk_42 (dk_at dksX7_append_0 6 rfl rfl)
theorem dX7_append_7 : decode cX7_append 7 = .ok (.getfield 130, 3) := dk_180 0 130 (dk_at dksX7_append_0 7 rfl rfl)
theorem dX7_append_10 : decode cX7_append 10 = .ok (.aload_n 0, 1) := dk_42 (dk_at dksX7_append_0 10 rfl rfl)
theorem dX7_append_11 : decode cX7_append 11 = .ok (.iload_n 1, 1) := dk_27 (dk_at dksX7_append_0 11 rfl rfl)
theorem dX7_append_12 : decode cX7_append 12 = .ok (.invokevirtual 133, 3) := dk_182 0 133 (dk_at dksX7_append_0 12 rfl rfl)
theorem dX7_append_15 : decode cX7_append 15 = .ok (.iadd, 1) := dk_96 (dk_at dksX7_append_0 15 rfl rfl)
theorem dX7_append_16 : decode cX7_append 16 = .ok (.aload_n 0, 1) := dk_42 (dk_at dksX7_append_0 16 rfl rfl)
theorem dX7_append_17 : decode cX7_append 17 = .ok (.iload_n 2, 1) := dk_28 (dk_at dksX7_append_0 17 rfl rfl)
theorem dX7_append_18 : decode cX7_append 18 = .ok (.invokevirtual 133, 3) := dk_182 0 133 (dk_at dksX7_append_0 18 rfl rfl)
theorem dX7_append_21 : decode cX7_append 21 = .ok (.iadd, 1) := dk_96 (dk_at dksX7_append_0 21 rfl rfl)
theorem dX7_append_22 : decode cX7_append 22 = .ok (.aload_n 0, 1) := dk_42 (dk_at dksX7_append_0 22 rfl rfl)
theorem dX7_append_23 : decode cX7_append 23 = .ok (.iload_n 3, 1) := dk_29 (dk_at dksX7_append_0 23 rfl rfl)
theorem dX7_append_24 : decode cX7_append 24 = .ok (.invokevirtual 133, 3) := dk_182 0 133 (dk_at dksX7_append_1 0 rfl rfl)
theorem dX7_append_27 : decode cX7_append 27 = .ok (.iadd, 1) := dk_96 (dk_at dksX7_append_1 3 rfl rfl)
theorem dX7_append_28 : decode cX7_append 28 = .ok (.aload_n 0, 1) := dk_42 (dk_at dksX7_append_1 4 rfl rfl)
theorem dX7_append_29 : decode cX7_append 29 = .ok (.iload 4, 2) := dk_21 4 (dk_at dksX7_append_1 5 rfl rfl)
theorem dX7_append_31 : decode cX7_append 31 = .ok (.invokevirtual 133, 3) := dk_182 0 133 (dk_at dksX7_append_1 7 rfl rfl)
theorem dX7_append_34 : decode cX7_append 34 = .ok (.iadd, 1) := dk_96 (dk_at dksX7_append_1 10 rfl rfl)
theorem dX7_append_35 : decode cX7_append 35 = .ok (.aload_n 0, 1) := dk_42 (dk_at dksX7_append_1 11 rfl rfl)
theorem dX7_append_36 : decode cX7_append 36 = .ok (.iload 5, 2) := dk_21 5 (dk_at dksX7_append_1 12 rfl rfl)
theorem dX7_append_38 : decode cX7_append 38 = .ok (.invokevirtual 133, 3) := dk_182 0 133 (dk_at dksX7_append_1 14 rfl rfl)
theorem dX7_append_41 : decode cX7_append 41 = .ok (.iadd, 1) := dk_96 (dk_at dksX7_append_1 17 rfl rfl)
theorem dX7_append_42 : decode cX7_append 42 = .ok (.sipush 800, 3) := dk_17 3 32 (dk_at dksX7_append_1 18 rfl rfl)
theorem dX7_append_45 : decode cX7_append 45 = .ok (.if_icmp .le 7, 3) := dk_164 0 7 (dk_at dksX7_append_1 21 rfl rfl)
theorem dX7_append_48 : decode cX7_append 48 = .ok (.iconst 1, 1) := dk_4 (dk_at dksX7_append_2 0 rfl rfl)
theorem dX7_append_49 : decode cX7_append 49 = .ok (.goto 4, 3) := dk_167 0 4 (dk_at dksX7_append_2 1 rfl rfl)
theorem dX7_append_52 : decode cX7_append 52 = .ok (.iconst 0, 1) := dk_3 (dk_at dksX7_append_2 4 rfl rfl)
theorem dX7_append_53 : decode cX7_append 53 = .ok (.iconst 1, 1) := dk_4 (dk_at dksX7_append_2 5 rfl rfl)
theorem dX7_append_54 : decode cX7_append 54 = .ok (.invokevirtual 136, 3) := dk_182 0 136 (dk_at dksX7_append_2 6 rfl rfl)
theorem dX7_append_57 : decode cX7_append 57 = .ok (.ifCond .eq 5, 3) := dk_153 0 5 (dk_at dksX7_append_2 9 rfl rfl)
theorem dX7_append_60 : decode cX7_append 60 = .ok (.iconst 0, 1) := dk_3 (dk_at dksX7_append_2 12 rfl rfl)
theorem dX7_append_61 : decode cX7_append 61 = .ok (.ireturn, 1) := dk_172 (dk_at dksX7_append_2 13 rfl rfl)
theorem dX7_append_62 : decode cX7_append 62 = .ok (.aload_n 0, 1) := dk_42 (dk_at dksX7_append_2 14 rfl rfl)
theorem dX7_append_63 : decode cX7_append 63 = .ok (.iload_n 1, 1) := dk_27 (dk_at dksX7_append_2 15 rfl rfl)
theorem dX7_append_64 : decode cX7_append 64 = .ok (.invokevirtual 140, 3) := dk_182 0 140 (dk_at dksX7_append_2 16 rfl rfl)
theorem dX7_append_67 : decode cX7_append 67 = .ok (.aload_n 0, 1) := dk_42 (dk_at dksX7_append_2 19 rfl rfl)
theorem dX7_append_68 : decode cX7_append 68 = .ok (.iload_n 2, 1) := dk_28 (dk_at dksX7_append_2 20 rfl rfl)
theorem dX7_append_69 : decode cX7_append 69 = .ok (.invokevirtual 140, 3) := dk_182 0 140 (dk_at dksX7_append_2 21 rfl rfl)
theorem dX7_append_72 : decode cX7_append 72 = .ok (.aload_n 0, 1) := dk_42 (dk_at dksX7_append_3 0 rfl rfl)
theorem dX7_append_73 : decode cX7_append 73 = .ok (.iload_n 3, 1) := dk_29 (dk_at dksX7_append_3 1 rfl rfl)
theorem dX7_append_74 : decode cX7_append 74 = .ok (.invokevirtual 140, 3) := dk_182 0 140 (dk_at dksX7_append_3 2 rfl rfl)
theorem dX7_append_77 : decode cX7_append 77 = .ok (.aload_n 0, 1) := dk_42 (dk_at dksX7_append_3 5 rfl rfl)
theorem dX7_append_78 : decode cX7_append 78 = .ok (.iload 4, 2) := dk_21 4 (dk_at dksX7_append_3 6 rfl rfl)
theorem dX7_append_80 : decode cX7_append 80 = .ok (.invokevirtual 140, 3) := dk_182 0 140 (dk_at dksX7_append_3 8 rfl rfl)
theorem dX7_append_83 : decode cX7_append 83 = .ok (.aload_n 0, 1) := dk_42 (dk_at dksX7_append_3 11 rfl rfl)
theorem dX7_append_84 : decode cX7_append 84 = .ok (.iload 5, 2) := dk_21 5 (dk_at dksX7_append_3 12 rfl rfl)
theorem dX7_append_86 : decode cX7_append 86 = .ok (.invokevirtual 140, 3) := dk_182 0 140 (dk_at dksX7_append_3 14 rfl rfl)
theorem dX7_append_89 : decode cX7_append 89 = .ok (.aload_n 0, 1) := dk_42 (dk_at dksX7_append_3 17 rfl rfl)
theorem dX7_append_90 : decode cX7_append 90 = .ok (.getfield 130, 3) := dk_180 0 130 (dk_at dksX7_append_3 18 rfl rfl)
theorem dX7_append_93 : decode cX7_append 93 = .ok (.ireturn, 1) := dk_172 (dk_at dksX7_append_3 21 rfl rfl)
abbrev iX7_append : xM := (yX7_append, cX7_append, 6, (some .int), [])
theorem mX7_append : xOkM iX7_append := ⟨by decide +kernel, by decide, q3631, q175⟩
abbrev cX7_bytesIn : ByteArray := prog_15_method_38_code
def yX7_bytesIn : MethodName := ⟨RX7, "bytesIn", "(I)I"⟩
def dkwX7_bytesIn_1 : List UInt8 := [3, 96, 61, 132, 3, 248, 167, 255, 231, 28, 172]
abbrev dktX7_bytesIn_1 : List UInt8 := dkwX7_bytesIn_1 ++ []
def dkwX7_bytesIn_0 : List UInt8 := [3, 61, 16, 24, 62, 29, 155, 0, 27, 28, 27, 29, 122, 17, 0, 255, 126, 153, 0, 7, 4, 167, 0, 4]
abbrev dktX7_bytesIn_0 : List UInt8 := dkwX7_bytesIn_0 ++ dktX7_bytesIn_1
theorem dksX7_bytesIn_0 : cX7_bytesIn.data.toList.drop 0 = dktX7_bytesIn_0 := by decide +kernel
theorem dksX7_bytesIn_1 : cX7_bytesIn.data.toList.drop 24 = dktX7_bytesIn_1 := dk_seg dksX7_bytesIn_0 24 rfl rfl
theorem dX7_bytesIn_0 : decode cX7_bytesIn 0 = .ok (.iconst 0, 1) := dk_3 (dk_at dksX7_bytesIn_0 0 rfl rfl)
theorem dX7_bytesIn_1 : decode cX7_bytesIn 1 = .ok (.istore_n 2, 1) := dk_61 (dk_at dksX7_bytesIn_0 1 rfl rfl)
theorem dX7_bytesIn_2 : decode cX7_bytesIn 2 = .ok (.bipush 24, 2) := dk_16 24 (dk_at dksX7_bytesIn_0 2 rfl rfl)
theorem dX7_bytesIn_4 : decode cX7_bytesIn 4 = .ok (.istore_n 3, 1) := dk_62 (dk_at dksX7_bytesIn_0 4 rfl rfl)
theorem dX7_bytesIn_5 : decode cX7_bytesIn 5 = .ok (.iload_n 3, 1) := dk_29 (dk_at dksX7_bytesIn_0 5 rfl rfl)
theorem dX7_bytesIn_6 : decode cX7_bytesIn 6 = .ok (.ifCond .lt 27, 3) := dk_155 0 27 (dk_at dksX7_bytesIn_0 6 rfl rfl)
theorem dX7_bytesIn_9 : decode cX7_bytesIn 9 = .ok (.iload_n 2, 1) := dk_28 (dk_at dksX7_bytesIn_0 9 rfl rfl)
theorem dX7_bytesIn_10 : decode cX7_bytesIn 10 = .ok (.iload_n 1, 1) := dk_27 (dk_at dksX7_bytesIn_0 10 rfl rfl)
theorem dX7_bytesIn_11 : decode cX7_bytesIn 11 = .ok (.iload_n 3, 1) := dk_29 (dk_at dksX7_bytesIn_0 11 rfl rfl)
theorem dX7_bytesIn_12 : decode cX7_bytesIn 12 = .ok (.ishr, 1) := dk_122 (dk_at dksX7_bytesIn_0 12 rfl rfl)
theorem dX7_bytesIn_13 : decode cX7_bytesIn 13 = .ok (.sipush 255, 3) := dk_17 0 255 (dk_at dksX7_bytesIn_0 13 rfl rfl)
theorem dX7_bytesIn_16 : decode cX7_bytesIn 16 = .ok (.iand, 1) := dk_126 (dk_at dksX7_bytesIn_0 16 rfl rfl)
theorem dX7_bytesIn_17 : decode cX7_bytesIn 17 = .ok (.ifCond .eq 7, 3) := dk_153 0 7 (dk_at dksX7_bytesIn_0 17 rfl rfl)
theorem dX7_bytesIn_20 : decode cX7_bytesIn 20 = .ok (.iconst 1, 1) := dk_4 (dk_at dksX7_bytesIn_0 20 rfl rfl)
theorem dX7_bytesIn_21 : decode cX7_bytesIn 21 = .ok (.goto 4, 3) := dk_167 0 4 (dk_at dksX7_bytesIn_0 21 rfl rfl)
theorem dX7_bytesIn_24 : decode cX7_bytesIn 24 = .ok (.iconst 0, 1) := dk_3 (dk_at dksX7_bytesIn_1 0 rfl rfl)
theorem dX7_bytesIn_25 : decode cX7_bytesIn 25 = .ok (.iadd, 1) := dk_96 (dk_at dksX7_bytesIn_1 1 rfl rfl)
theorem dX7_bytesIn_26 : decode cX7_bytesIn 26 = .ok (.istore_n 2, 1) := dk_61 (dk_at dksX7_bytesIn_1 2 rfl rfl)
theorem dX7_bytesIn_27 : decode cX7_bytesIn 27 = .ok (.iinc 3 (-8), 3) := dk_132 3 248 (dk_at dksX7_bytesIn_1 3 rfl rfl)
theorem dX7_bytesIn_30 : decode cX7_bytesIn 30 = .ok (.goto (-25), 3) := dk_167 255 231 (dk_at dksX7_bytesIn_1 6 rfl rfl)
theorem dX7_bytesIn_33 : decode cX7_bytesIn 33 = .ok (.iload_n 2, 1) := dk_28 (dk_at dksX7_bytesIn_1 9 rfl rfl)
theorem dX7_bytesIn_34 : decode cX7_bytesIn 34 = .ok (.ireturn, 1) := dk_172 (dk_at dksX7_bytesIn_1 10 rfl rfl)
abbrev iX7_bytesIn : xM := (yX7_bytesIn, cX7_bytesIn, 4, (some .int), [])
theorem mX7_bytesIn : xOkM iX7_bytesIn := ⟨by decide +kernel, by decide, q3635, q175⟩
abbrev cX7_stops : ByteArray := prog_15_method_7_code
def yX7_stops : MethodName := ⟨RX7, "stops", "(ZI)Z"⟩
def dkwX7_stops_1 : List UInt8 := [167, 0, 4, 3, 172]
abbrev dktX7_stops_1 : List UInt8 := dkwX7_stops_1 ++ []
def dkwX7_stops_0 : List UInt8 := [42, 180, 0, 72, 154, 0, 12, 27, 153, 0, 8, 42, 28, 181, 0, 72, 42, 180, 0, 72, 153, 0, 7, 4]
abbrev dktX7_stops_0 : List UInt8 := dkwX7_stops_0 ++ dktX7_stops_1
theorem dksX7_stops_0 : cX7_stops.data.toList.drop 0 = dktX7_stops_0 := by decide +kernel
theorem dksX7_stops_1 : cX7_stops.data.toList.drop 24 = dktX7_stops_1 := dk_seg dksX7_stops_0 24 rfl rfl
theorem dX7_stops_0 : decode cX7_stops 0 = .ok (.aload_n 0, 1) := dk_42 (dk_at dksX7_stops_0 0 rfl rfl)
theorem dX7_stops_1 : decode cX7_stops 1 = .ok (.getfield 72, 3) := dk_180 0 72 (dk_at dksX7_stops_0 1 rfl rfl)
theorem dX7_stops_4 : decode cX7_stops 4 = .ok (.ifCond .ne 12, 3) := dk_154 0 12 (dk_at dksX7_stops_0 4 rfl rfl)
theorem dX7_stops_7 : decode cX7_stops 7 = .ok (.iload_n 1, 1) := dk_27 (dk_at dksX7_stops_0 7 rfl rfl)
theorem dX7_stops_8 : decode cX7_stops 8 = .ok (.ifCond .eq 8, 3) := dk_153 0 8 (dk_at dksX7_stops_0 8 rfl rfl)
theorem dX7_stops_11 : decode cX7_stops 11 = .ok (.aload_n 0, 1) := dk_42 (dk_at dksX7_stops_0 11 rfl rfl)
theorem dX7_stops_12 : decode cX7_stops 12 = .ok (.iload_n 2, 1) := dk_28 (dk_at dksX7_stops_0 12 rfl rfl)
theorem dX7_stops_13 : decode cX7_stops 13 = .ok (.putfield 72, 3) := dk_181 0 72 (dk_at dksX7_stops_0 13 rfl rfl)
theorem dX7_stops_16 : decode cX7_stops 16 = .ok (.aload_n 0, 1) := dk_42 (dk_at dksX7_stops_0 16 rfl rfl)
theorem dX7_stops_17 : decode cX7_stops 17 = .ok (.getfield 72, 3) := dk_180 0 72 (dk_at dksX7_stops_0 17 rfl rfl)
theorem dX7_stops_20 : decode cX7_stops 20 = .ok (.ifCond .eq 7, 3) := dk_153 0 7 (dk_at dksX7_stops_0 20 rfl rfl)
theorem dX7_stops_23 : decode cX7_stops 23 = .ok (.iconst 1, 1) := dk_4 (dk_at dksX7_stops_0 23 rfl rfl)
theorem dX7_stops_24 : decode cX7_stops 24 = .ok (.goto 4, 3) := dk_167 0 4 (dk_at dksX7_stops_1 0 rfl rfl)
theorem dX7_stops_27 : decode cX7_stops 27 = .ok (.iconst 0, 1) := dk_3 (dk_at dksX7_stops_1 3 rfl rfl)
theorem dX7_stops_28 : decode cX7_stops 28 = .ok (.ireturn, 1) := dk_172 (dk_at dksX7_stops_1 4 rfl rfl)
abbrev iX7_stops : xM := (yX7_stops, cX7_stops, 3, (some .boolean), [])
theorem mX7_stops : xOkM iX7_stops := ⟨by decide +kernel, by decide, q3639, q175⟩
abbrev cX7_four : ByteArray := prog_15_method_39_code
def yX7_four : MethodName := ⟨RX7, "four", "(I)V"⟩
def dkwX7_four_2 : List UInt8 := [167, 255, 213, 177]
abbrev dktX7_four_2 : List UInt8 := dkwX7_four_2 ++ []
def dkwX7_four_1 : List UInt8 := [180, 0, 130, 27, 28, 122, 17, 0, 255, 126, 79, 42, 89, 180, 0, 130, 4, 96, 181, 0, 130, 132, 2, 248]
abbrev dktX7_four_1 : List UInt8 := dkwX7_four_1 ++ dktX7_four_2
def dkwX7_four_0 : List UInt8 := [16, 24, 61, 28, 155, 0, 45, 27, 28, 122, 17, 0, 255, 126, 153, 0, 29, 42, 180, 0, 42, 42]
abbrev dktX7_four_0 : List UInt8 := dkwX7_four_0 ++ dktX7_four_1
theorem dksX7_four_0 : cX7_four.data.toList.drop 0 = dktX7_four_0 := by decide +kernel
theorem dksX7_four_1 : cX7_four.data.toList.drop 22 = dktX7_four_1 := dk_seg dksX7_four_0 22 rfl rfl
theorem dksX7_four_2 : cX7_four.data.toList.drop 46 = dktX7_four_2 := dk_seg dksX7_four_1 24 rfl rfl
theorem dX7_four_0 : decode cX7_four 0 = .ok (.bipush 24, 2) := dk_16 24 (dk_at dksX7_four_0 0 rfl rfl)
theorem dX7_four_2 : decode cX7_four 2 = .ok (.istore_n 2, 1) := dk_61 (dk_at dksX7_four_0 2 rfl rfl)
theorem dX7_four_3 : decode cX7_four 3 = .ok (.iload_n 2, 1) := dk_28 (dk_at dksX7_four_0 3 rfl rfl)
theorem dX7_four_4 : decode cX7_four 4 = .ok (.ifCond .lt 45, 3) := dk_155 0 45 (dk_at dksX7_four_0 4 rfl rfl)
theorem dX7_four_7 : decode cX7_four 7 = .ok (.iload_n 1, 1) := dk_27 (dk_at dksX7_four_0 7 rfl rfl)
theorem dX7_four_8 : decode cX7_four 8 = .ok (.iload_n 2, 1) := dk_28 (dk_at dksX7_four_0 8 rfl rfl)
theorem dX7_four_9 : decode cX7_four 9 = .ok (.ishr, 1) := dk_122 (dk_at dksX7_four_0 9 rfl rfl)
theorem dX7_four_10 : decode cX7_four 10 = .ok (.sipush 255, 3) := dk_17 0 255 (dk_at dksX7_four_0 10 rfl rfl)
theorem dX7_four_13 : decode cX7_four 13 = .ok (.iand, 1) := dk_126 (dk_at dksX7_four_0 13 rfl rfl)
theorem dX7_four_14 : decode cX7_four 14 = .ok (.ifCond .eq 29, 3) := dk_153 0 29 (dk_at dksX7_four_0 14 rfl rfl)
theorem dX7_four_17 : decode cX7_four 17 = .ok (.aload_n 0, 1) := dk_42 (dk_at dksX7_four_0 17 rfl rfl)
theorem dX7_four_18 : decode cX7_four 18 = .ok (.getfield 42, 3) := dk_180 0 42 (dk_at dksX7_four_0 18 rfl rfl)
theorem dX7_four_21 : decode cX7_four 21 = .ok (.aload_n 0, 1) := dk_42 (dk_at dksX7_four_0 21 rfl rfl)
theorem dX7_four_22 : decode cX7_four 22 = .ok (.getfield 130, 3) := dk_180 0 130 (dk_at dksX7_four_1 0 rfl rfl)
theorem dX7_four_25 : decode cX7_four 25 = .ok (.iload_n 1, 1) := dk_27 (dk_at dksX7_four_1 3 rfl rfl)
theorem dX7_four_26 : decode cX7_four 26 = .ok (.iload_n 2, 1) := dk_28 (dk_at dksX7_four_1 4 rfl rfl)
theorem dX7_four_27 : decode cX7_four 27 = .ok (.ishr, 1) := dk_122 (dk_at dksX7_four_1 5 rfl rfl)
theorem dX7_four_28 : decode cX7_four 28 = .ok (.sipush 255, 3) := dk_17 0 255 (dk_at dksX7_four_1 6 rfl rfl)
theorem dX7_four_31 : decode cX7_four 31 = .ok (.iand, 1) := dk_126 (dk_at dksX7_four_1 9 rfl rfl)
theorem dX7_four_32 : decode cX7_four 32 = .ok (.iastore, 1) := dk_79 (dk_at dksX7_four_1 10 rfl rfl)
theorem dX7_four_33 : decode cX7_four 33 = .ok (.aload_n 0, 1) := dk_42 (dk_at dksX7_four_1 11 rfl rfl)
theorem dX7_four_34 : decode cX7_four 34 = .ok (.dup, 1) := dk_89 (dk_at dksX7_four_1 12 rfl rfl)
theorem dX7_four_35 : decode cX7_four 35 = .ok (.getfield 130, 3) := dk_180 0 130 (dk_at dksX7_four_1 13 rfl rfl)
theorem dX7_four_38 : decode cX7_four 38 = .ok (.iconst 1, 1) := dk_4 (dk_at dksX7_four_1 16 rfl rfl)
theorem dX7_four_39 : decode cX7_four 39 = .ok (.iadd, 1) := dk_96 (dk_at dksX7_four_1 17 rfl rfl)
theorem dX7_four_40 : decode cX7_four 40 = .ok (.putfield 130, 3) := dk_181 0 130 (dk_at dksX7_four_1 18 rfl rfl)
theorem dX7_four_43 : decode cX7_four 43 = .ok (.iinc 2 (-8), 3) := dk_132 2 248 (dk_at dksX7_four_1 21 rfl rfl)
theorem dX7_four_46 : decode cX7_four 46 = .ok (.goto (-43), 3) := dk_167 255 213 (dk_at dksX7_four_2 0 rfl rfl)
theorem dX7_four_49 : decode cX7_four 49 = .ok (.return_, 1) := dk_177 (dk_at dksX7_four_2 3 rfl rfl)
abbrev iX7_four : xM := (yX7_four, cX7_four, 3, none, [])
theorem mX7_four : xOkM iX7_four := ⟨by decide +kernel, by decide, q3643, q175⟩
abbrev cX7_truncate : ByteArray := prog_15_method_41_code
def yX7_truncate : MethodName := ⟨RX7, "truncate", "(I)I"⟩
def dkwX7_truncate_1 : List UInt8 := [3, 4, 182, 0, 136, 153, 0, 5, 3, 172, 42, 27, 181, 0, 130, 27, 172]
abbrev dktX7_truncate_1 : List UInt8 := dkwX7_truncate_1 ++ []
def dkwX7_truncate_0 : List UInt8 := [42, 3, 181, 0, 72, 42, 27, 133, 9, 42, 180, 0, 130, 133, 184, 0, 144, 154, 0, 7, 4, 167, 0, 4]
abbrev dktX7_truncate_0 : List UInt8 := dkwX7_truncate_0 ++ dktX7_truncate_1
theorem dksX7_truncate_0 : cX7_truncate.data.toList.drop 0 = dktX7_truncate_0 := by decide +kernel
theorem dksX7_truncate_1 : cX7_truncate.data.toList.drop 24 = dktX7_truncate_1 := dk_seg dksX7_truncate_0 24 rfl rfl
theorem dX7_truncate_0 : decode cX7_truncate 0 = .ok (.aload_n 0, 1) := dk_42 (dk_at dksX7_truncate_0 0 rfl rfl)
theorem dX7_truncate_1 : decode cX7_truncate 1 = .ok (.iconst 0, 1) := dk_3 (dk_at dksX7_truncate_0 1 rfl rfl)
theorem dX7_truncate_2 : decode cX7_truncate 2 = .ok (.putfield 72, 3) := dk_181 0 72 (dk_at dksX7_truncate_0 2 rfl rfl)
theorem dX7_truncate_5 : decode cX7_truncate 5 = .ok (.aload_n 0, 1) := dk_42 (dk_at dksX7_truncate_0 5 rfl rfl)
theorem dX7_truncate_6 : decode cX7_truncate 6 = .ok (.iload_n 1, 1) := dk_27 (dk_at dksX7_truncate_0 6 rfl rfl)
theorem dX7_truncate_7 : decode cX7_truncate 7 = .ok (.i2l, 1) := dk_133 (dk_at dksX7_truncate_0 7 rfl rfl)
theorem dX7_truncate_8 : decode cX7_truncate 8 = .ok (.lconst 0, 1) := dk_9 (dk_at dksX7_truncate_0 8 rfl rfl)
theorem dX7_truncate_9 : decode cX7_truncate 9 = .ok (.aload_n 0, 1) := dk_42 (dk_at dksX7_truncate_0 9 rfl rfl)
theorem dX7_truncate_10 : decode cX7_truncate 10 = .ok (.getfield 130, 3) := dk_180 0 130 (dk_at dksX7_truncate_0 10 rfl rfl)
theorem dX7_truncate_13 : decode cX7_truncate 13 = .ok (.i2l, 1) := dk_133 (dk_at dksX7_truncate_0 13 rfl rfl)
theorem dX7_truncate_14 : decode cX7_truncate 14 = .ok (.invokestatic 144, 3) := dk_184 0 144 (dk_at dksX7_truncate_0 14 rfl rfl)
theorem dX7_truncate_17 : decode cX7_truncate 17 = .ok (.ifCond .ne 7, 3) := dk_154 0 7 (dk_at dksX7_truncate_0 17 rfl rfl)
theorem dX7_truncate_20 : decode cX7_truncate 20 = .ok (.iconst 1, 1) := dk_4 (dk_at dksX7_truncate_0 20 rfl rfl)
theorem dX7_truncate_21 : decode cX7_truncate 21 = .ok (.goto 4, 3) := dk_167 0 4 (dk_at dksX7_truncate_0 21 rfl rfl)
theorem dX7_truncate_24 : decode cX7_truncate 24 = .ok (.iconst 0, 1) := dk_3 (dk_at dksX7_truncate_1 0 rfl rfl)
theorem dX7_truncate_25 : decode cX7_truncate 25 = .ok (.iconst 1, 1) := dk_4 (dk_at dksX7_truncate_1 1 rfl rfl)
theorem dX7_truncate_26 : decode cX7_truncate 26 = .ok (.invokevirtual 136, 3) := dk_182 0 136 (dk_at dksX7_truncate_1 2 rfl rfl)
theorem dX7_truncate_29 : decode cX7_truncate 29 = .ok (.ifCond .eq 5, 3) := dk_153 0 5 (dk_at dksX7_truncate_1 5 rfl rfl)
theorem dX7_truncate_32 : decode cX7_truncate 32 = .ok (.iconst 0, 1) := dk_3 (dk_at dksX7_truncate_1 8 rfl rfl)
theorem dX7_truncate_33 : decode cX7_truncate 33 = .ok (.ireturn, 1) := dk_172 (dk_at dksX7_truncate_1 9 rfl rfl)
theorem dX7_truncate_34 : decode cX7_truncate 34 = .ok (.aload_n 0, 1) := dk_42 (dk_at dksX7_truncate_1 10 rfl rfl)
theorem dX7_truncate_35 : decode cX7_truncate 35 = .ok (.iload_n 1, 1) := dk_27 (dk_at dksX7_truncate_1 11 rfl rfl)
theorem dX7_truncate_36 : decode cX7_truncate 36 = .ok (.putfield 130, 3) := dk_181 0 130 (dk_at dksX7_truncate_1 12 rfl rfl)
theorem dX7_truncate_39 : decode cX7_truncate 39 = .ok (.iload_n 1, 1) := dk_27 (dk_at dksX7_truncate_1 15 rfl rfl)
theorem dX7_truncate_40 : decode cX7_truncate 40 = .ok (.ireturn, 1) := dk_172 (dk_at dksX7_truncate_1 16 rfl rfl)
abbrev iX7_truncate : xM := (yX7_truncate, cX7_truncate, 2, (some .int), [])
theorem mX7_truncate : xOkM iX7_truncate := ⟨by decide +kernel, by decide, q3647, q175⟩
abbrev cX7_in : ByteArray := prog_15_method_3_code
def yX7_in : MethodName := ⟨RX7, "in", "(JJJ)Z"⟩
def dkwX7_in_0 : List UInt8 := [30, 32, 148, 155, 0, 14, 30, 22, 4, 148, 157, 0, 7, 4, 167, 0, 4, 3, 172]
abbrev dktX7_in_0 : List UInt8 := dkwX7_in_0 ++ []
theorem dksX7_in_0 : cX7_in.data.toList.drop 0 = dktX7_in_0 := by decide +kernel
theorem dX7_in_0 : decode cX7_in 0 = .ok (.lload_n 0, 1) := dk_30 (dk_at dksX7_in_0 0 rfl rfl)
theorem dX7_in_1 : decode cX7_in 1 = .ok (.lload_n 2, 1) := dk_32 (dk_at dksX7_in_0 1 rfl rfl)
theorem dX7_in_2 : decode cX7_in 2 = .ok (.lcmp, 1) := dk_148 (dk_at dksX7_in_0 2 rfl rfl)
theorem dX7_in_3 : decode cX7_in 3 = .ok (.ifCond .lt 14, 3) := dk_155 0 14 (dk_at dksX7_in_0 3 rfl rfl)
theorem dX7_in_6 : decode cX7_in 6 = .ok (.lload_n 0, 1) := dk_30 (dk_at dksX7_in_0 6 rfl rfl)
theorem dX7_in_7 : decode cX7_in 7 = .ok (.lload 4, 2) := dk_22 4 (dk_at dksX7_in_0 7 rfl rfl)
theorem dX7_in_9 : decode cX7_in 9 = .ok (.lcmp, 1) := dk_148 (dk_at dksX7_in_0 9 rfl rfl)
theorem dX7_in_10 : decode cX7_in 10 = .ok (.ifCond .gt 7, 3) := dk_157 0 7 (dk_at dksX7_in_0 10 rfl rfl)
theorem dX7_in_13 : decode cX7_in 13 = .ok (.iconst 1, 1) := dk_4 (dk_at dksX7_in_0 13 rfl rfl)
theorem dX7_in_14 : decode cX7_in 14 = .ok (.goto 4, 3) := dk_167 0 4 (dk_at dksX7_in_0 14 rfl rfl)
theorem dX7_in_17 : decode cX7_in 17 = .ok (.iconst 0, 1) := dk_3 (dk_at dksX7_in_0 17 rfl rfl)
theorem dX7_in_18 : decode cX7_in 18 = .ok (.ireturn, 1) := dk_172 (dk_at dksX7_in_0 18 rfl rfl)
abbrev iX7_in : xM := (yX7_in, cX7_in, 6, (some .boolean), [])
theorem mX7_in : xOkM iX7_in := ⟨by decide +kernel, by decide, q3650, q175⟩
abbrev cX7_load : ByteArray := prog_15_method_60_code
def yX7_load : MethodName := ⟨RX7, "load", "()I"⟩
def dkwX7_load_4 : List UInt8 := [84, 42, 180, 0, 22, 4, 3, 84, 3, 172]
abbrev dktX7_load_4 : List UInt8 := dkwX7_load_4 ++ []
def dkwX7_load_3 : List UInt8 := [3, 184, 0, 246, 42, 180, 0, 189, 172, 42, 182, 0, 69, 42, 3, 181, 1, 3, 42, 180, 0, 22, 3, 3]
abbrev dktX7_load_3 : List UInt8 := dkwX7_load_3 ++ dktX7_load_4
def dkwX7_load_2 : List UInt8 := [42, 182, 0, 253, 42, 182, 1, 0, 42, 180, 0, 189, 153, 0, 21, 42, 180, 0, 13, 3, 42, 180, 0, 7]
abbrev dktX7_load_2 : List UInt8 := dkwX7_load_2 ++ dktX7_load_3
def dkwX7_load_1 : List UInt8 := [27, 17, 1, 24, 162, 0, 16, 42, 180, 0, 7, 27, 3, 79, 132, 1, 1, 167, 255, 239, 42, 182, 0, 250]
abbrev dktX7_load_1 : List UInt8 := dkwX7_load_1 ++ dktX7_load_2
def dkwX7_load_0 : List UInt8 := [42, 3, 181, 0, 72, 42, 182, 0, 243, 42, 180, 0, 7, 3, 42, 180, 0, 13, 3, 184, 0, 246, 3, 60]
abbrev dktX7_load_0 : List UInt8 := dkwX7_load_0 ++ dktX7_load_1
theorem dksX7_load_0 : cX7_load.data.toList.drop 0 = dktX7_load_0 := by decide +kernel
theorem dksX7_load_1 : cX7_load.data.toList.drop 24 = dktX7_load_1 := dk_seg dksX7_load_0 24 rfl rfl
theorem dksX7_load_2 : cX7_load.data.toList.drop 48 = dktX7_load_2 := dk_seg dksX7_load_1 24 rfl rfl
theorem dksX7_load_3 : cX7_load.data.toList.drop 72 = dktX7_load_3 := dk_seg dksX7_load_2 24 rfl rfl
theorem dksX7_load_4 : cX7_load.data.toList.drop 96 = dktX7_load_4 := dk_seg dksX7_load_3 24 rfl rfl
theorem dX7_load_0 : decode cX7_load 0 = .ok (.aload_n 0, 1) := dk_42 (dk_at dksX7_load_0 0 rfl rfl)
theorem dX7_load_1 : decode cX7_load 1 = .ok (.iconst 0, 1) := dk_3 (dk_at dksX7_load_0 1 rfl rfl)
theorem dX7_load_2 : decode cX7_load 2 = .ok (.putfield 72, 3) := dk_181 0 72 (dk_at dksX7_load_0 2 rfl rfl)
theorem dX7_load_5 : decode cX7_load 5 = .ok (.aload_n 0, 1) := dk_42 (dk_at dksX7_load_0 5 rfl rfl)
theorem dX7_load_6 : decode cX7_load 6 = .ok (.invokevirtual 243, 3) := dk_182 0 243 (dk_at dksX7_load_0 6 rfl rfl)
theorem dX7_load_9 : decode cX7_load 9 = .ok (.aload_n 0, 1) := dk_42 (dk_at dksX7_load_0 9 rfl rfl)
theorem dX7_load_10 : decode cX7_load 10 = .ok (.getfield 7, 3) := dk_180 0 7 (dk_at dksX7_load_0 10 rfl rfl)
theorem dX7_load_13 : decode cX7_load 13 = .ok (.iconst 0, 1) := dk_3 (dk_at dksX7_load_0 13 rfl rfl)
theorem dX7_load_14 : decode cX7_load 14 = .ok (.aload_n 0, 1) := dk_42 (dk_at dksX7_load_0 14 rfl rfl)
theorem dX7_load_15 : decode cX7_load 15 = .ok (.getfield 13, 3) := dk_180 0 13 (dk_at dksX7_load_0 15 rfl rfl)
theorem dX7_load_18 : decode cX7_load 18 = .ok (.iconst 0, 1) := dk_3 (dk_at dksX7_load_0 18 rfl rfl)
theorem dX7_load_19 : decode cX7_load 19 = .ok (.invokestatic 246, 3) := dk_184 0 246 (dk_at dksX7_load_0 19 rfl rfl)
theorem dX7_load_22 : decode cX7_load 22 = .ok (.iconst 0, 1) := dk_3 (dk_at dksX7_load_0 22 rfl rfl)
theorem dX7_load_23 : decode cX7_load 23 = .ok (.istore_n 1, 1) := dk_60 (dk_at dksX7_load_0 23 rfl rfl)
theorem dX7_load_24 : decode cX7_load 24 = .ok (.iload_n 1, 1) := dk_27 (dk_at dksX7_load_1 0 rfl rfl)
theorem dX7_load_25 : decode cX7_load 25 = .ok (.sipush 280, 3) := dk_17 1 24 (dk_at dksX7_load_1 1 rfl rfl)
theorem dX7_load_28 : decode cX7_load 28 = .ok (.if_icmp .ge 16, 3) := dk_162 0 16 (dk_at dksX7_load_1 4 rfl rfl)
theorem dX7_load_31 : decode cX7_load 31 = .ok (.aload_n 0, 1) := dk_42 (dk_at dksX7_load_1 7 rfl rfl)
theorem dX7_load_32 : decode cX7_load 32 = .ok (.getfield 7, 3) := dk_180 0 7 (dk_at dksX7_load_1 8 rfl rfl)
theorem dX7_load_35 : decode cX7_load 35 = .ok (.iload_n 1, 1) := dk_27 (dk_at dksX7_load_1 11 rfl rfl)
theorem dX7_load_36 : decode cX7_load 36 = .ok (.iconst 0, 1) := dk_3 (dk_at dksX7_load_1 12 rfl rfl)
theorem dX7_load_37 : decode cX7_load 37 = .ok (.iastore, 1) := dk_79 (dk_at dksX7_load_1 13 rfl rfl)
theorem dX7_load_38 : decode cX7_load 38 = .ok (.iinc 1 1, 3) := dk_132 1 1 (dk_at dksX7_load_1 14 rfl rfl)
theorem dX7_load_41 : decode cX7_load 41 = .ok (.goto (-17), 3) := dk_167 255 239 (dk_at dksX7_load_1 17 rfl rfl)
theorem dX7_load_44 : decode cX7_load 44 = .ok (.aload_n 0, 1) := dk_42 (dk_at dksX7_load_1 20 rfl rfl)
theorem dX7_load_45 : decode cX7_load 45 = .ok (.invokevirtual 250, 3) := dk_182 0 250 (dk_at dksX7_load_1 21 rfl rfl)
theorem dX7_load_48 : decode cX7_load 48 = .ok (.aload_n 0, 1) := dk_42 (dk_at dksX7_load_2 0 rfl rfl)
theorem dX7_load_49 : decode cX7_load 49 = .ok (.invokevirtual 253, 3) := dk_182 0 253 (dk_at dksX7_load_2 1 rfl rfl)
theorem dX7_load_52 : decode cX7_load 52 = .ok (.aload_n 0, 1) := dk_42 (dk_at dksX7_load_2 4 rfl rfl)
theorem dX7_load_53 : decode cX7_load 53 = .ok (.invokevirtual 256, 3) := dk_182 1 0 (dk_at dksX7_load_2 5 rfl rfl)
theorem dX7_load_56 : decode cX7_load 56 = .ok (.aload_n 0, 1) := dk_42 (dk_at dksX7_load_2 8 rfl rfl)
theorem dX7_load_57 : decode cX7_load 57 = .ok (.getfield 189, 3) := dk_180 0 189 (dk_at dksX7_load_2 9 rfl rfl)
theorem dX7_load_60 : decode cX7_load 60 = .ok (.ifCond .eq 21, 3) := dk_153 0 21 (dk_at dksX7_load_2 12 rfl rfl)
theorem dX7_load_63 : decode cX7_load 63 = .ok (.aload_n 0, 1) := dk_42 (dk_at dksX7_load_2 15 rfl rfl)
theorem dX7_load_64 : decode cX7_load 64 = .ok (.getfield 13, 3) := dk_180 0 13 (dk_at dksX7_load_2 16 rfl rfl)
theorem dX7_load_67 : decode cX7_load 67 = .ok (.iconst 0, 1) := dk_3 (dk_at dksX7_load_2 19 rfl rfl)
theorem dX7_load_68 : decode cX7_load 68 = .ok (.aload_n 0, 1) := dk_42 (dk_at dksX7_load_2 20 rfl rfl)
theorem dX7_load_69 : decode cX7_load 69 = .ok (.getfield 7, 3) := dk_180 0 7 (dk_at dksX7_load_2 21 rfl rfl)
theorem dX7_load_72 : decode cX7_load 72 = .ok (.iconst 0, 1) := dk_3 (dk_at dksX7_load_3 0 rfl rfl)
theorem dX7_load_73 : decode cX7_load 73 = .ok (.invokestatic 246, 3) := dk_184 0 246 (dk_at dksX7_load_3 1 rfl rfl)
theorem dX7_load_76 : decode cX7_load 76 = .ok (.aload_n 0, 1) := dk_42 (dk_at dksX7_load_3 4 rfl rfl)
theorem dX7_load_77 : decode cX7_load 77 = .ok (.getfield 189, 3) := dk_180 0 189 (dk_at dksX7_load_3 5 rfl rfl)
theorem dX7_load_80 : decode cX7_load 80 = .ok (.ireturn, 1) := dk_172 (dk_at dksX7_load_3 8 rfl rfl)
theorem dX7_load_81 : decode cX7_load 81 = .ok (.aload_n 0, 1) := dk_42 (dk_at dksX7_load_3 9 rfl rfl)
theorem dX7_load_82 : decode cX7_load 82 = .ok (.invokevirtual 69, 3) := dk_182 0 69 (dk_at dksX7_load_3 10 rfl rfl)
theorem dX7_load_85 : decode cX7_load 85 = .ok (.aload_n 0, 1) := dk_42 (dk_at dksX7_load_3 13 rfl rfl)
theorem dX7_load_86 : decode cX7_load 86 = .ok (.iconst 0, 1) := dk_3 (dk_at dksX7_load_3 14 rfl rfl)
theorem dX7_load_87 : decode cX7_load 87 = .ok (.putfield 259, 3) := dk_181 1 3 (dk_at dksX7_load_3 15 rfl rfl)
theorem dX7_load_90 : decode cX7_load 90 = .ok (.aload_n 0, 1) := dk_42 (dk_at dksX7_load_3 18 rfl rfl)
theorem dX7_load_91 : decode cX7_load 91 = .ok (.getfield 22, 3) := dk_180 0 22 (dk_at dksX7_load_3 19 rfl rfl)
theorem dX7_load_94 : decode cX7_load 94 = .ok (.iconst 0, 1) := dk_3 (dk_at dksX7_load_3 22 rfl rfl)
theorem dX7_load_95 : decode cX7_load 95 = .ok (.iconst 0, 1) := dk_3 (dk_at dksX7_load_3 23 rfl rfl)
theorem dX7_load_96 : decode cX7_load 96 = .ok (.bastore, 1) := dk_84 (dk_at dksX7_load_4 0 rfl rfl)
theorem dX7_load_97 : decode cX7_load 97 = .ok (.aload_n 0, 1) := dk_42 (dk_at dksX7_load_4 1 rfl rfl)
theorem dX7_load_98 : decode cX7_load 98 = .ok (.getfield 22, 3) := dk_180 0 22 (dk_at dksX7_load_4 2 rfl rfl)
theorem dX7_load_101 : decode cX7_load 101 = .ok (.iconst 1, 1) := dk_4 (dk_at dksX7_load_4 5 rfl rfl)
theorem dX7_load_102 : decode cX7_load 102 = .ok (.iconst 0, 1) := dk_3 (dk_at dksX7_load_4 6 rfl rfl)
theorem dX7_load_103 : decode cX7_load 103 = .ok (.bastore, 1) := dk_84 (dk_at dksX7_load_4 7 rfl rfl)
theorem dX7_load_104 : decode cX7_load 104 = .ok (.iconst 0, 1) := dk_3 (dk_at dksX7_load_4 8 rfl rfl)
theorem dX7_load_105 : decode cX7_load 105 = .ok (.ireturn, 1) := dk_172 (dk_at dksX7_load_4 9 rfl rfl)
abbrev iX7_load : xM := (yX7_load, cX7_load, 2, (some .int), [])
theorem mX7_load : xOkM iX7_load := ⟨by decide +kernel, by decide, q3654, q175⟩
abbrev cX7_takesText : ByteArray := prog_15_method_58_code
def yX7_takesText : MethodName := ⟨RX7, "takesText", "()V"⟩
def dkwX7_takesText_1 : List UInt8 := [132, 1, 1, 167, 255, 233, 42, 42, 180, 0, 130, 181, 0, 148, 42, 3, 181, 0, 130, 177]
abbrev dktX7_takesText_1 : List UInt8 := dkwX7_takesText_1 ++ []
def dkwX7_takesText_0 : List UInt8 := [3, 60, 27, 42, 180, 0, 130, 162, 0, 21, 42, 180, 0, 45, 27, 42, 180, 0, 42, 27, 46, 79]
abbrev dktX7_takesText_0 : List UInt8 := dkwX7_takesText_0 ++ dktX7_takesText_1
theorem dksX7_takesText_0 : cX7_takesText.data.toList.drop 0 = dktX7_takesText_0 := by decide +kernel
theorem dksX7_takesText_1 : cX7_takesText.data.toList.drop 22 = dktX7_takesText_1 := dk_seg dksX7_takesText_0 22 rfl rfl
theorem dX7_takesText_0 : decode cX7_takesText 0 = .ok (.iconst 0, 1) := dk_3 (dk_at dksX7_takesText_0 0 rfl rfl)
theorem dX7_takesText_1 : decode cX7_takesText 1 = .ok (.istore_n 1, 1) := dk_60 (dk_at dksX7_takesText_0 1 rfl rfl)
theorem dX7_takesText_2 : decode cX7_takesText 2 = .ok (.iload_n 1, 1) := dk_27 (dk_at dksX7_takesText_0 2 rfl rfl)
theorem dX7_takesText_3 : decode cX7_takesText 3 = .ok (.aload_n 0, 1) := dk_42 (dk_at dksX7_takesText_0 3 rfl rfl)
theorem dX7_takesText_4 : decode cX7_takesText 4 = .ok (.getfield 130, 3) := dk_180 0 130 (dk_at dksX7_takesText_0 4 rfl rfl)
theorem dX7_takesText_7 : decode cX7_takesText 7 = .ok (.if_icmp .ge 21, 3) := dk_162 0 21 (dk_at dksX7_takesText_0 7 rfl rfl)
theorem dX7_takesText_10 : decode cX7_takesText 10 = .ok (.aload_n 0, 1) := dk_42 (dk_at dksX7_takesText_0 10 rfl rfl)
theorem dX7_takesText_11 : decode cX7_takesText 11 = .ok (.getfield 45, 3) := dk_180 0 45 (dk_at dksX7_takesText_0 11 rfl rfl)
theorem dX7_takesText_14 : decode cX7_takesText 14 = .ok (.iload_n 1, 1) := dk_27 (dk_at dksX7_takesText_0 14 rfl rfl)
theorem dX7_takesText_15 : decode cX7_takesText 15 = .ok (.aload_n 0, 1) := dk_42 (dk_at dksX7_takesText_0 15 rfl rfl)
theorem dX7_takesText_16 : decode cX7_takesText 16 = .ok (.getfield 42, 3) := dk_180 0 42 (dk_at dksX7_takesText_0 16 rfl rfl)
theorem dX7_takesText_19 : decode cX7_takesText 19 = .ok (.iload_n 1, 1) := dk_27 (dk_at dksX7_takesText_0 19 rfl rfl)
theorem dX7_takesText_20 : decode cX7_takesText 20 = .ok (.iaload, 1) := dk_46 (dk_at dksX7_takesText_0 20 rfl rfl)
theorem dX7_takesText_21 : decode cX7_takesText 21 = .ok (.iastore, 1) := dk_79 (dk_at dksX7_takesText_0 21 rfl rfl)
theorem dX7_takesText_22 : decode cX7_takesText 22 = .ok (.iinc 1 1, 3) := dk_132 1 1 (dk_at dksX7_takesText_1 0 rfl rfl)
theorem dX7_takesText_25 : decode cX7_takesText 25 = .ok (.goto (-23), 3) := dk_167 255 233 (dk_at dksX7_takesText_1 3 rfl rfl)
theorem dX7_takesText_28 : decode cX7_takesText 28 = .ok (.aload_n 0, 1) := dk_42 (dk_at dksX7_takesText_1 6 rfl rfl)
theorem dX7_takesText_29 : decode cX7_takesText 29 = .ok (.aload_n 0, 1) := dk_42 (dk_at dksX7_takesText_1 7 rfl rfl)
theorem dX7_takesText_30 : decode cX7_takesText 30 = .ok (.getfield 130, 3) := dk_180 0 130 (dk_at dksX7_takesText_1 8 rfl rfl)
theorem dX7_takesText_33 : decode cX7_takesText 33 = .ok (.putfield 148, 3) := dk_181 0 148 (dk_at dksX7_takesText_1 11 rfl rfl)
theorem dX7_takesText_36 : decode cX7_takesText 36 = .ok (.aload_n 0, 1) := dk_42 (dk_at dksX7_takesText_1 14 rfl rfl)
theorem dX7_takesText_37 : decode cX7_takesText 37 = .ok (.iconst 0, 1) := dk_3 (dk_at dksX7_takesText_1 15 rfl rfl)
theorem dX7_takesText_38 : decode cX7_takesText 38 = .ok (.putfield 130, 3) := dk_181 0 130 (dk_at dksX7_takesText_1 16 rfl rfl)
theorem dX7_takesText_41 : decode cX7_takesText 41 = .ok (.return_, 1) := dk_177 (dk_at dksX7_takesText_1 19 rfl rfl)
abbrev iX7_takesText : xM := (yX7_takesText, cX7_takesText, 2, none, [])
theorem mX7_takesText : xOkM iX7_takesText := ⟨by decide +kernel, by decide, q3658, q175⟩
abbrev cX7_copies : ByteArray := prog_15_method_8_code
def yX7_copies : MethodName := ⟨RX7, "copies", "([II[II)V"⟩
def dkwX7_copies_1 : List UInt8 := [132, 4, 1, 167, 255, 233, 177]
abbrev dktX7_copies_1 : List UInt8 := dkwX7_copies_1 ++ []
def dkwX7_copies_0 : List UInt8 := [3, 54, 4, 21, 4, 17, 1, 24, 162, 0, 21, 44, 29, 21, 4, 96, 42, 27, 21, 4, 96, 46, 79]
abbrev dktX7_copies_0 : List UInt8 := dkwX7_copies_0 ++ dktX7_copies_1
theorem dksX7_copies_0 : cX7_copies.data.toList.drop 0 = dktX7_copies_0 := by decide +kernel
theorem dksX7_copies_1 : cX7_copies.data.toList.drop 23 = dktX7_copies_1 := dk_seg dksX7_copies_0 23 rfl rfl
theorem dX7_copies_0 : decode cX7_copies 0 = .ok (.iconst 0, 1) := dk_3 (dk_at dksX7_copies_0 0 rfl rfl)
theorem dX7_copies_1 : decode cX7_copies 1 = .ok (.istore 4, 2) := dk_54 4 (dk_at dksX7_copies_0 1 rfl rfl)
theorem dX7_copies_3 : decode cX7_copies 3 = .ok (.iload 4, 2) := dk_21 4 (dk_at dksX7_copies_0 3 rfl rfl)
theorem dX7_copies_5 : decode cX7_copies 5 = .ok (.sipush 280, 3) := dk_17 1 24 (dk_at dksX7_copies_0 5 rfl rfl)
theorem dX7_copies_8 : decode cX7_copies 8 = .ok (.if_icmp .ge 21, 3) := dk_162 0 21 (dk_at dksX7_copies_0 8 rfl rfl)
theorem dX7_copies_11 : decode cX7_copies 11 = .ok (.aload_n 2, 1) := dk_44 (dk_at dksX7_copies_0 11 rfl rfl)
theorem dX7_copies_12 : decode cX7_copies 12 = .ok (.iload_n 3, 1) := dk_29 (dk_at dksX7_copies_0 12 rfl rfl)
theorem dX7_copies_13 : decode cX7_copies 13 = .ok (.iload 4, 2) := dk_21 4 (dk_at dksX7_copies_0 13 rfl rfl)
theorem dX7_copies_15 : decode cX7_copies 15 = .ok (.iadd, 1) := dk_96 (dk_at dksX7_copies_0 15 rfl rfl)
theorem dX7_copies_16 : decode cX7_copies 16 = .ok (.aload_n 0, 1) := dk_42 (dk_at dksX7_copies_0 16 rfl rfl)
theorem dX7_copies_17 : decode cX7_copies 17 = .ok (.iload_n 1, 1) := dk_27 (dk_at dksX7_copies_0 17 rfl rfl)
theorem dX7_copies_18 : decode cX7_copies 18 = .ok (.iload 4, 2) := dk_21 4 (dk_at dksX7_copies_0 18 rfl rfl)
theorem dX7_copies_20 : decode cX7_copies 20 = .ok (.iadd, 1) := dk_96 (dk_at dksX7_copies_0 20 rfl rfl)
theorem dX7_copies_21 : decode cX7_copies 21 = .ok (.iaload, 1) := dk_46 (dk_at dksX7_copies_0 21 rfl rfl)
theorem dX7_copies_22 : decode cX7_copies 22 = .ok (.iastore, 1) := dk_79 (dk_at dksX7_copies_0 22 rfl rfl)
theorem dX7_copies_23 : decode cX7_copies 23 = .ok (.iinc 4 1, 3) := dk_132 4 1 (dk_at dksX7_copies_1 0 rfl rfl)
theorem dX7_copies_26 : decode cX7_copies 26 = .ok (.goto (-23), 3) := dk_167 255 233 (dk_at dksX7_copies_1 3 rfl rfl)
theorem dX7_copies_29 : decode cX7_copies 29 = .ok (.return_, 1) := dk_177 (dk_at dksX7_copies_1 6 rfl rfl)
abbrev iX7_copies : xM := (yX7_copies, cX7_copies, 5, none, [])
theorem mX7_copies : xOkM iX7_copies := ⟨by decide +kernel, by decide, q3661, q175⟩
abbrev cX7_starts : ByteArray := prog_15_method_49_code
def yX7_starts : MethodName := ⟨RX7, "starts", "()V"⟩
def dkwX7_starts_0 : List UInt8 := [42, 3, 181, 0, 159, 42, 3, 181, 0, 189, 42, 182, 0, 195, 177]
abbrev dktX7_starts_0 : List UInt8 := dkwX7_starts_0 ++ []
theorem dksX7_starts_0 : cX7_starts.data.toList.drop 0 = dktX7_starts_0 := by decide +kernel
theorem dX7_starts_0 : decode cX7_starts 0 = .ok (.aload_n 0, 1) := dk_42 (dk_at dksX7_starts_0 0 rfl rfl)
theorem dX7_starts_1 : decode cX7_starts 1 = .ok (.iconst 0, 1) := dk_3 (dk_at dksX7_starts_0 1 rfl rfl)
theorem dX7_starts_2 : decode cX7_starts 2 = .ok (.putfield 159, 3) := dk_181 0 159 (dk_at dksX7_starts_0 2 rfl rfl)
theorem dX7_starts_5 : decode cX7_starts 5 = .ok (.aload_n 0, 1) := dk_42 (dk_at dksX7_starts_0 5 rfl rfl)
theorem dX7_starts_6 : decode cX7_starts 6 = .ok (.iconst 0, 1) := dk_3 (dk_at dksX7_starts_0 6 rfl rfl)
theorem dX7_starts_7 : decode cX7_starts 7 = .ok (.putfield 189, 3) := dk_181 0 189 (dk_at dksX7_starts_0 7 rfl rfl)
theorem dX7_starts_10 : decode cX7_starts 10 = .ok (.aload_n 0, 1) := dk_42 (dk_at dksX7_starts_0 10 rfl rfl)
theorem dX7_starts_11 : decode cX7_starts 11 = .ok (.invokevirtual 195, 3) := dk_182 0 195 (dk_at dksX7_starts_0 11 rfl rfl)
theorem dX7_starts_14 : decode cX7_starts 14 = .ok (.return_, 1) := dk_177 (dk_at dksX7_starts_0 14 rfl rfl)
abbrev iX7_starts : xM := (yX7_starts, cX7_starts, 1, none, [])
theorem mX7_starts : xOkM iX7_starts := ⟨by decide +kernel, by decide, q3665, q175⟩
abbrev cX7_scan : ByteArray := prog_15_method_45_code
def yX7_scan : MethodName := ⟨RX7, "scan", "()V"⟩
def dkwX7_scan_12 : List UInt8 := [167, 0, 4, 7, 181, 0, 167, 42, 89, 180, 0, 159, 4, 96, 181, 0, 159, 177]
abbrev dktX7_scan_12 : List UInt8 := dkwX7_scan_12 ++ []
def dkwX7_scan_11 : List UInt8 := [159, 0, 21, 27, 16, 40, 159, 0, 15, 27, 16, 41, 159, 0, 9, 27, 16, 45, 160, 0, 7, 6]
abbrev dktX7_scan_11 : List UInt8 := dkwX7_scan_11 ++ dktX7_scan_12
def dkwX7_scan_10 : List UInt8 := [180, 0, 159, 4, 96, 181, 0, 159, 167, 255, 193, 42, 5, 181, 0, 167, 167, 0, 46, 42, 27, 16, 59]
abbrev dktX7_scan_10 : List UInt8 := dkwX7_scan_10 ++ dktX7_scan_11
def dkwX7_scan_9 : List UInt8 := [16, 10, 42, 180, 0, 185, 104, 42, 42, 180, 0, 159, 182, 0, 161, 96, 16, 48, 100, 181, 0, 185, 42, 89]
abbrev dktX7_scan_9 : List UInt8 := dkwX7_scan_9 ++ dktX7_scan_10
def dkwX7_scan_8 : List UInt8 := [184, 0, 182, 153, 0, 55, 42, 42, 180, 0, 185, 18, 188, 164, 0, 10, 42, 180, 0, 185, 167, 0, 22]
abbrev dktX7_scan_8 : List UInt8 := dkwX7_scan_8 ++ dktX7_scan_9
def dkwX7_scan_7 : List UInt8 := [167, 0, 132, 27, 184, 0, 182, 153, 0, 82, 42, 3, 181, 0, 185, 42, 42, 180, 0, 159, 182, 0, 161]
abbrev dktX7_scan_7 : List UInt8 := dkwX7_scan_7 ++ dktX7_scan_8
def dkwX7_scan_6 : List UInt8 := [180, 0, 174, 181, 0, 174, 42, 89, 180, 0, 159, 4, 96, 181, 0, 159, 167, 255, 185, 42, 4, 181, 0, 167]
abbrev dktX7_scan_6 : List UInt8 := dkwX7_scan_6 ++ dktX7_scan_7
def dkwX7_scan_5 : List UInt8 := [180, 0, 174, 105, 42, 42, 180, 0, 159, 182, 0, 161, 133, 97, 20, 0, 180, 101, 167, 0, 7, 42]
abbrev dktX7_scan_5 : List UInt8 := dkwX7_scan_5 ++ dktX7_scan_6
def dkwX7_scan_4 : List UInt8 := [153, 0, 63, 42, 42, 180, 0, 159, 42, 180, 0, 164, 100, 16, 12, 162, 0, 28, 20, 0, 178, 42]
abbrev dktX7_scan_4 : List UInt8 := dkwX7_scan_4 ++ dktX7_scan_5
def dkwX7_scan_3 : List UInt8 := [184, 0, 170, 153, 0, 90, 42, 9, 181, 0, 174, 42, 42, 180, 0, 159, 182, 0, 161, 184, 0, 170]
abbrev dktX7_scan_3 : List UInt8 := dkwX7_scan_3 ++ dktX7_scan_4
def dkwX7_scan_2 : List UInt8 := [42, 42, 180, 0, 159, 182, 0, 161, 60, 27, 2, 160, 0, 11, 42, 3, 181, 0, 167, 167, 0, 226, 27]
abbrev dktX7_scan_2 : List UInt8 := dkwX7_scan_2 ++ dktX7_scan_3
def dkwX7_scan_1 : List UInt8 := [160, 0, 16, 42, 89, 180, 0, 159, 4, 96, 181, 0, 159, 167, 255, 220, 42, 42, 180, 0, 159, 181, 0, 164]
abbrev dktX7_scan_1 : List UInt8 := dkwX7_scan_1 ++ dktX7_scan_2
def dkwX7_scan_0 : List UInt8 := [42, 42, 180, 0, 159, 182, 0, 161, 16, 32, 159, 0, 16, 42, 42, 180, 0, 159, 182, 0, 161, 16, 10]
abbrev dktX7_scan_0 : List UInt8 := dkwX7_scan_0 ++ dktX7_scan_1
theorem dksX7_scan_0 : cX7_scan.data.toList.drop 0 = dktX7_scan_0 := by decide +kernel
theorem dksX7_scan_1 : cX7_scan.data.toList.drop 23 = dktX7_scan_1 := dk_seg dksX7_scan_0 23 rfl rfl
theorem dksX7_scan_2 : cX7_scan.data.toList.drop 47 = dktX7_scan_2 := dk_seg dksX7_scan_1 24 rfl rfl
theorem dksX7_scan_3 : cX7_scan.data.toList.drop 70 = dktX7_scan_3 := dk_seg dksX7_scan_2 23 rfl rfl
theorem dksX7_scan_4 : cX7_scan.data.toList.drop 92 = dktX7_scan_4 := dk_seg dksX7_scan_3 22 rfl rfl
theorem dksX7_scan_5 : cX7_scan.data.toList.drop 114 = dktX7_scan_5 := dk_seg dksX7_scan_4 22 rfl rfl
theorem dksX7_scan_6 : cX7_scan.data.toList.drop 136 = dktX7_scan_6 := dk_seg dksX7_scan_5 22 rfl rfl
theorem dksX7_scan_7 : cX7_scan.data.toList.drop 160 = dktX7_scan_7 := dk_seg dksX7_scan_6 24 rfl rfl
theorem dksX7_scan_8 : cX7_scan.data.toList.drop 183 = dktX7_scan_8 := dk_seg dksX7_scan_7 23 rfl rfl
theorem dksX7_scan_9 : cX7_scan.data.toList.drop 206 = dktX7_scan_9 := dk_seg dksX7_scan_8 23 rfl rfl
theorem dksX7_scan_10 : cX7_scan.data.toList.drop 230 = dktX7_scan_10 := dk_seg dksX7_scan_9 24 rfl rfl
theorem dksX7_scan_11 : cX7_scan.data.toList.drop 253 = dktX7_scan_11 := dk_seg dksX7_scan_10 23 rfl rfl
theorem dksX7_scan_12 : cX7_scan.data.toList.drop 275 = dktX7_scan_12 := dk_seg dksX7_scan_11 22 rfl rfl
theorem dX7_scan_0 : decode cX7_scan 0 = .ok (.aload_n 0, 1) := dk_42 (dk_at dksX7_scan_0 0 rfl rfl)
theorem dX7_scan_1 : decode cX7_scan 1 = .ok (.aload_n 0, 1) := dk_42 (dk_at dksX7_scan_0 1 rfl rfl)
theorem dX7_scan_2 : decode cX7_scan 2 = .ok (.getfield 159, 3) := dk_180 0 159 (dk_at dksX7_scan_0 2 rfl rfl)
theorem dX7_scan_5 : decode cX7_scan 5 = .ok (.invokevirtual 161, 3) := dk_182 0 161 (dk_at dksX7_scan_0 5 rfl rfl)
theorem dX7_scan_8 : decode cX7_scan 8 = .ok (.bipush 32, 2) := dk_16 32 (dk_at dksX7_scan_0 8 rfl rfl)
theorem dX7_scan_10 : decode cX7_scan 10 = .ok (.if_icmp .eq 16, 3) := dk_159 0 16 (dk_at dksX7_scan_0 10 rfl rfl)
theorem dX7_scan_13 : decode cX7_scan 13 = .ok (.aload_n 0, 1) := dk_42 (dk_at dksX7_scan_0 13 rfl rfl)
theorem dX7_scan_14 : decode cX7_scan 14 = .ok (.aload_n 0, 1) := dk_42 (dk_at dksX7_scan_0 14 rfl rfl)
theorem dX7_scan_15 : decode cX7_scan 15 = .ok (.getfield 159, 3) := dk_180 0 159 (dk_at dksX7_scan_0 15 rfl rfl)
theorem dX7_scan_18 : decode cX7_scan 18 = .ok (.invokevirtual 161, 3) := dk_182 0 161 (dk_at dksX7_scan_0 18 rfl rfl)
theorem dX7_scan_21 : decode cX7_scan 21 = .ok (.bipush 10, 2) := dk_16 10 (dk_at dksX7_scan_0 21 rfl rfl)
theorem dX7_scan_23 : decode cX7_scan 23 = .ok (.if_icmp .ne 16, 3) := dk_160 0 16 (dk_at dksX7_scan_1 0 rfl rfl)
theorem dX7_scan_26 : decode cX7_scan 26 = .ok (.aload_n 0, 1) := dk_42 (dk_at dksX7_scan_1 3 rfl rfl)
theorem dX7_scan_27 : decode cX7_scan 27 = .ok (.dup, 1) := dk_89 (dk_at dksX7_scan_1 4 rfl rfl)
theorem dX7_scan_28 : decode cX7_scan 28 = .ok (.getfield 159, 3) := dk_180 0 159 (dk_at dksX7_scan_1 5 rfl rfl)
theorem dX7_scan_31 : decode cX7_scan 31 = .ok (.iconst 1, 1) := dk_4 (dk_at dksX7_scan_1 8 rfl rfl)
theorem dX7_scan_32 : decode cX7_scan 32 = .ok (.iadd, 1) := dk_96 (dk_at dksX7_scan_1 9 rfl rfl)
theorem dX7_scan_33 : decode cX7_scan 33 = .ok (.putfield 159, 3) := dk_181 0 159 (dk_at dksX7_scan_1 10 rfl rfl)
theorem dX7_scan_36 : decode cX7_scan 36 = .ok (.goto (-36), 3) := dk_167 255 220 (dk_at dksX7_scan_1 13 rfl rfl)
theorem dX7_scan_39 : decode cX7_scan 39 = .ok (.aload_n 0, 1) := dk_42 (dk_at dksX7_scan_1 16 rfl rfl)
theorem dX7_scan_40 : decode cX7_scan 40 = .ok (.aload_n 0, 1) := dk_42 (dk_at dksX7_scan_1 17 rfl rfl)
theorem dX7_scan_41 : decode cX7_scan 41 = .ok (.getfield 159, 3) := dk_180 0 159 (dk_at dksX7_scan_1 18 rfl rfl)
theorem dX7_scan_44 : decode cX7_scan 44 = .ok (.putfield 164, 3) := dk_181 0 164 (dk_at dksX7_scan_1 21 rfl rfl)
theorem dX7_scan_47 : decode cX7_scan 47 = .ok (.aload_n 0, 1) := dk_42 (dk_at dksX7_scan_2 0 rfl rfl)
theorem dX7_scan_48 : decode cX7_scan 48 = .ok (.aload_n 0, 1) := dk_42 (dk_at dksX7_scan_2 1 rfl rfl)
theorem dX7_scan_49 : decode cX7_scan 49 = .ok (.getfield 159, 3) := dk_180 0 159 (dk_at dksX7_scan_2 2 rfl rfl)
theorem dX7_scan_52 : decode cX7_scan 52 = .ok (.invokevirtual 161, 3) := dk_182 0 161 (dk_at dksX7_scan_2 5 rfl rfl)
theorem dX7_scan_55 : decode cX7_scan 55 = .ok (.istore_n 1, 1) := dk_60 (dk_at dksX7_scan_2 8 rfl rfl)
theorem dX7_scan_56 : decode cX7_scan 56 = .ok (.iload_n 1, 1) := dk_27 (dk_at dksX7_scan_2 9 rfl rfl)
theorem dX7_scan_57 : decode cX7_scan 57 = .ok (.iconst (-1), 1) := dk_2 (dk_at dksX7_scan_2 10 rfl rfl)
theorem dX7_scan_58 : decode cX7_scan 58 = .ok (.if_icmp .ne 11, 3) := dk_160 0 11 (dk_at dksX7_scan_2 11 rfl rfl)
theorem dX7_scan_61 : decode cX7_scan 61 = .ok (.aload_n 0, 1) := dk_42 (dk_at dksX7_scan_2 14 rfl rfl)
theorem dX7_scan_62 : decode cX7_scan 62 = .ok (.iconst 0, 1) := dk_3 (dk_at dksX7_scan_2 15 rfl rfl)
theorem dX7_scan_63 : decode cX7_scan 63 = .ok (.putfield 167, 3) := dk_181 0 167 (dk_at dksX7_scan_2 16 rfl rfl)
theorem dX7_scan_66 : decode cX7_scan 66 = .ok (.goto 226, 3) := dk_167 0 226 (dk_at dksX7_scan_2 19 rfl rfl)
theorem dX7_scan_69 : decode cX7_scan 69 = .ok (.iload_n 1, 1) := dk_27 (dk_at dksX7_scan_2 22 rfl rfl)
theorem dX7_scan_70 : decode cX7_scan 70 = .ok (.invokestatic 170, 3) := dk_184 0 170 (dk_at dksX7_scan_3 0 rfl rfl)
theorem dX7_scan_73 : decode cX7_scan 73 = .ok (.ifCond .eq 90, 3) := dk_153 0 90 (dk_at dksX7_scan_3 3 rfl rfl)
theorem dX7_scan_76 : decode cX7_scan 76 = .ok (.aload_n 0, 1) := dk_42 (dk_at dksX7_scan_3 6 rfl rfl)
theorem dX7_scan_77 : decode cX7_scan 77 = .ok (.lconst 0, 1) := dk_9 (dk_at dksX7_scan_3 7 rfl rfl)
theorem dX7_scan_78 : decode cX7_scan 78 = .ok (.putfield 174, 3) := dk_181 0 174 (dk_at dksX7_scan_3 8 rfl rfl)
theorem dX7_scan_81 : decode cX7_scan 81 = .ok (.aload_n 0, 1) := dk_42 (dk_at dksX7_scan_3 11 rfl rfl)
theorem dX7_scan_82 : decode cX7_scan 82 = .ok (.aload_n 0, 1) := dk_42 (dk_at dksX7_scan_3 12 rfl rfl)
theorem dX7_scan_83 : decode cX7_scan 83 = .ok (.getfield 159, 3) := dk_180 0 159 (dk_at dksX7_scan_3 13 rfl rfl)
theorem dX7_scan_86 : decode cX7_scan 86 = .ok (.invokevirtual 161, 3) := dk_182 0 161 (dk_at dksX7_scan_3 16 rfl rfl)
theorem dX7_scan_89 : decode cX7_scan 89 = .ok (.invokestatic 170, 3) := dk_184 0 170 (dk_at dksX7_scan_3 19 rfl rfl)
theorem dX7_scan_92 : decode cX7_scan 92 = .ok (.ifCond .eq 63, 3) := dk_153 0 63 (dk_at dksX7_scan_4 0 rfl rfl)
theorem dX7_scan_95 : decode cX7_scan 95 = .ok (.aload_n 0, 1) := dk_42 (dk_at dksX7_scan_4 3 rfl rfl)
theorem dX7_scan_96 : decode cX7_scan 96 = .ok (.aload_n 0, 1) := dk_42 (dk_at dksX7_scan_4 4 rfl rfl)
theorem dX7_scan_97 : decode cX7_scan 97 = .ok (.getfield 159, 3) := dk_180 0 159 (dk_at dksX7_scan_4 5 rfl rfl)
theorem dX7_scan_100 : decode cX7_scan 100 = .ok (.aload_n 0, 1) := dk_42 (dk_at dksX7_scan_4 8 rfl rfl)
theorem dX7_scan_101 : decode cX7_scan 101 = .ok (.getfield 164, 3) := dk_180 0 164 (dk_at dksX7_scan_4 9 rfl rfl)
theorem dX7_scan_104 : decode cX7_scan 104 = .ok (.isub, 1) := dk_100 (dk_at dksX7_scan_4 12 rfl rfl)
theorem dX7_scan_105 : decode cX7_scan 105 = .ok (.bipush 12, 2) := dk_16 12 (dk_at dksX7_scan_4 13 rfl rfl)
theorem dX7_scan_107 : decode cX7_scan 107 = .ok (.if_icmp .ge 28, 3) := dk_162 0 28 (dk_at dksX7_scan_4 15 rfl rfl)
theorem dX7_scan_110 : decode cX7_scan 110 = .ok (.ldc2_w 178, 3) := dk_20 0 178 (dk_at dksX7_scan_4 18 rfl rfl)
theorem dX7_scan_113 : decode cX7_scan 113 = .ok (.aload_n 0, 1) := dk_42 (dk_at dksX7_scan_4 21 rfl rfl)
theorem dX7_scan_114 : decode cX7_scan 114 = .ok (.getfield 174, 3) := dk_180 0 174 (dk_at dksX7_scan_5 0 rfl rfl)
theorem dX7_scan_117 : decode cX7_scan 117 = .ok (.lmul, 1) := dk_105 (dk_at dksX7_scan_5 3 rfl rfl)
theorem dX7_scan_118 : decode cX7_scan 118 = .ok (.aload_n 0, 1) := dk_42 (dk_at dksX7_scan_5 4 rfl rfl)
theorem dX7_scan_119 : decode cX7_scan 119 = .ok (.aload_n 0, 1) := dk_42 (dk_at dksX7_scan_5 5 rfl rfl)
theorem dX7_scan_120 : decode cX7_scan 120 = .ok (.getfield 159, 3) := dk_180 0 159 (dk_at dksX7_scan_5 6 rfl rfl)
theorem dX7_scan_123 : decode cX7_scan 123 = .ok (.invokevirtual 161, 3) := dk_182 0 161 (dk_at dksX7_scan_5 9 rfl rfl)
theorem dX7_scan_126 : decode cX7_scan 126 = .ok (.i2l, 1) := dk_133 (dk_at dksX7_scan_5 12 rfl rfl)
theorem dX7_scan_127 : decode cX7_scan 127 = .ok (.ladd, 1) := dk_97 (dk_at dksX7_scan_5 13 rfl rfl)
theorem dX7_scan_128 : decode cX7_scan 128 = .ok (.ldc2_w 180, 3) := dk_20 0 180 (dk_at dksX7_scan_5 14 rfl rfl)
theorem dX7_scan_131 : decode cX7_scan 131 = .ok (.lsub, 1) := dk_101 (dk_at dksX7_scan_5 17 rfl rfl)
theorem dX7_scan_132 : decode cX7_scan 132 = .ok (.goto 7, 3) := dk_167 0 7 (dk_at dksX7_scan_5 18 rfl rfl)
theorem dX7_scan_135 : decode cX7_scan 135 = .ok (.aload_n 0, 1) := dk_42 (dk_at dksX7_scan_5 21 rfl rfl)
theorem dX7_scan_136 : decode cX7_scan 136 = .ok (.getfield 174, 3) := dk_180 0 174 (dk_at dksX7_scan_6 0 rfl rfl)
theorem dX7_scan_139 : decode cX7_scan 139 = .ok (.putfield 174, 3) := dk_181 0 174 (dk_at dksX7_scan_6 3 rfl rfl)
theorem dX7_scan_142 : decode cX7_scan 142 = .ok (.aload_n 0, 1) := dk_42 (dk_at dksX7_scan_6 6 rfl rfl)
theorem dX7_scan_143 : decode cX7_scan 143 = .ok (.dup, 1) := dk_89 (dk_at dksX7_scan_6 7 rfl rfl)
theorem dX7_scan_144 : decode cX7_scan 144 = .ok (.getfield 159, 3) := dk_180 0 159 (dk_at dksX7_scan_6 8 rfl rfl)
theorem dX7_scan_147 : decode cX7_scan 147 = .ok (.iconst 1, 1) := dk_4 (dk_at dksX7_scan_6 11 rfl rfl)
theorem dX7_scan_148 : decode cX7_scan 148 = .ok (.iadd, 1) := dk_96 (dk_at dksX7_scan_6 12 rfl rfl)
theorem dX7_scan_149 : decode cX7_scan 149 = .ok (.putfield 159, 3) := dk_181 0 159 (dk_at dksX7_scan_6 13 rfl rfl)
theorem dX7_scan_152 : decode cX7_scan 152 = .ok (.goto (-71), 3) := dk_167 255 185 (dk_at dksX7_scan_6 16 rfl rfl)
theorem dX7_scan_155 : decode cX7_scan 155 = .ok (.aload_n 0, 1) := dk_42 (dk_at dksX7_scan_6 19 rfl rfl)
theorem dX7_scan_156 : decode cX7_scan 156 = .ok (.iconst 1, 1) := dk_4 (dk_at dksX7_scan_6 20 rfl rfl)
theorem dX7_scan_157 : decode cX7_scan 157 = .ok (.putfield 167, 3) := dk_181 0 167 (dk_at dksX7_scan_6 21 rfl rfl)
theorem dX7_scan_160 : decode cX7_scan 160 = .ok (.goto 132, 3) := dk_167 0 132 (dk_at dksX7_scan_7 0 rfl rfl)
theorem dX7_scan_163 : decode cX7_scan 163 = .ok (.iload_n 1, 1) := dk_27 (dk_at dksX7_scan_7 3 rfl rfl)
theorem dX7_scan_164 : decode cX7_scan 164 = .ok (.invokestatic 182, 3) := dk_184 0 182 (dk_at dksX7_scan_7 4 rfl rfl)
theorem dX7_scan_167 : decode cX7_scan 167 = .ok (.ifCond .eq 82, 3) := dk_153 0 82 (dk_at dksX7_scan_7 7 rfl rfl)
theorem dX7_scan_170 : decode cX7_scan 170 = .ok (.aload_n 0, 1) := dk_42 (dk_at dksX7_scan_7 10 rfl rfl)
theorem dX7_scan_171 : decode cX7_scan 171 = .ok (.iconst 0, 1) := dk_3 (dk_at dksX7_scan_7 11 rfl rfl)
theorem dX7_scan_172 : decode cX7_scan 172 = .ok (.putfield 185, 3) := dk_181 0 185 (dk_at dksX7_scan_7 12 rfl rfl)
theorem dX7_scan_175 : decode cX7_scan 175 = .ok (.aload_n 0, 1) := dk_42 (dk_at dksX7_scan_7 15 rfl rfl)
theorem dX7_scan_176 : decode cX7_scan 176 = .ok (.aload_n 0, 1) := dk_42 (dk_at dksX7_scan_7 16 rfl rfl)
theorem dX7_scan_177 : decode cX7_scan 177 = .ok (.getfield 159, 3) := dk_180 0 159 (dk_at dksX7_scan_7 17 rfl rfl)
theorem dX7_scan_180 : decode cX7_scan 180 = .ok (.invokevirtual 161, 3) := dk_182 0 161 (dk_at dksX7_scan_7 20 rfl rfl)
theorem dX7_scan_183 : decode cX7_scan 183 = .ok (.invokestatic 182, 3) := dk_184 0 182 (dk_at dksX7_scan_8 0 rfl rfl)
theorem dX7_scan_186 : decode cX7_scan 186 = .ok (.ifCond .eq 55, 3) := dk_153 0 55 (dk_at dksX7_scan_8 3 rfl rfl)
theorem dX7_scan_189 : decode cX7_scan 189 = .ok (.aload_n 0, 1) := dk_42 (dk_at dksX7_scan_8 6 rfl rfl)
theorem dX7_scan_190 : decode cX7_scan 190 = .ok (.aload_n 0, 1) := dk_42 (dk_at dksX7_scan_8 7 rfl rfl)
theorem dX7_scan_191 : decode cX7_scan 191 = .ok (.getfield 185, 3) := dk_180 0 185 (dk_at dksX7_scan_8 8 rfl rfl)
theorem dX7_scan_194 : decode cX7_scan 194 = .ok (.ldc 188, 2) := dk_18 188 (dk_at dksX7_scan_8 11 rfl rfl)
theorem dX7_scan_196 : decode cX7_scan 196 = .ok (.if_icmp .le 10, 3) := dk_164 0 10 (dk_at dksX7_scan_8 13 rfl rfl)
theorem dX7_scan_199 : decode cX7_scan 199 = .ok (.aload_n 0, 1) := dk_42 (dk_at dksX7_scan_8 16 rfl rfl)
theorem dX7_scan_200 : decode cX7_scan 200 = .ok (.getfield 185, 3) := dk_180 0 185 (dk_at dksX7_scan_8 17 rfl rfl)
theorem dX7_scan_203 : decode cX7_scan 203 = .ok (.goto 22, 3) := dk_167 0 22 (dk_at dksX7_scan_8 20 rfl rfl)
theorem dX7_scan_206 : decode cX7_scan 206 = .ok (.bipush 10, 2) := dk_16 10 (dk_at dksX7_scan_9 0 rfl rfl)
theorem dX7_scan_208 : decode cX7_scan 208 = .ok (.aload_n 0, 1) := dk_42 (dk_at dksX7_scan_9 2 rfl rfl)
theorem dX7_scan_209 : decode cX7_scan 209 = .ok (.getfield 185, 3) := dk_180 0 185 (dk_at dksX7_scan_9 3 rfl rfl)
theorem dX7_scan_212 : decode cX7_scan 212 = .ok (.imul, 1) := dk_104 (dk_at dksX7_scan_9 6 rfl rfl)
theorem dX7_scan_213 : decode cX7_scan 213 = .ok (.aload_n 0, 1) := dk_42 (dk_at dksX7_scan_9 7 rfl rfl)
theorem dX7_scan_214 : decode cX7_scan 214 = .ok (.aload_n 0, 1) := dk_42 (dk_at dksX7_scan_9 8 rfl rfl)
theorem dX7_scan_215 : decode cX7_scan 215 = .ok (.getfield 159, 3) := dk_180 0 159 (dk_at dksX7_scan_9 9 rfl rfl)
theorem dX7_scan_218 : decode cX7_scan 218 = .ok (.invokevirtual 161, 3) := dk_182 0 161 (dk_at dksX7_scan_9 12 rfl rfl)
theorem dX7_scan_221 : decode cX7_scan 221 = .ok (.iadd, 1) := dk_96 (dk_at dksX7_scan_9 15 rfl rfl)
theorem dX7_scan_222 : decode cX7_scan 222 = .ok (.bipush 48, 2) := dk_16 48 (dk_at dksX7_scan_9 16 rfl rfl)
theorem dX7_scan_224 : decode cX7_scan 224 = .ok (.isub, 1) := dk_100 (dk_at dksX7_scan_9 18 rfl rfl)
theorem dX7_scan_225 : decode cX7_scan 225 = .ok (.putfield 185, 3) := dk_181 0 185 (dk_at dksX7_scan_9 19 rfl rfl)
theorem dX7_scan_228 : decode cX7_scan 228 = .ok (.aload_n 0, 1) := dk_42 (dk_at dksX7_scan_9 22 rfl rfl)
theorem dX7_scan_229 : decode cX7_scan 229 = .ok (.dup, 1) := dk_89 (dk_at dksX7_scan_9 23 rfl rfl)
theorem dX7_scan_230 : decode cX7_scan 230 = .ok (.getfield 159, 3) := dk_180 0 159 (dk_at dksX7_scan_10 0 rfl rfl)
theorem dX7_scan_233 : decode cX7_scan 233 = .ok (.iconst 1, 1) := dk_4 (dk_at dksX7_scan_10 3 rfl rfl)
theorem dX7_scan_234 : decode cX7_scan 234 = .ok (.iadd, 1) := dk_96 (dk_at dksX7_scan_10 4 rfl rfl)
theorem dX7_scan_235 : decode cX7_scan 235 = .ok (.putfield 159, 3) := dk_181 0 159 (dk_at dksX7_scan_10 5 rfl rfl)
theorem dX7_scan_238 : decode cX7_scan 238 = .ok (.goto (-63), 3) := dk_167 255 193 (dk_at dksX7_scan_10 8 rfl rfl)
theorem dX7_scan_241 : decode cX7_scan 241 = .ok (.aload_n 0, 1) := dk_42 (dk_at dksX7_scan_10 11 rfl rfl)
theorem dX7_scan_242 : decode cX7_scan 242 = .ok (.iconst 2, 1) := dk_5 (dk_at dksX7_scan_10 12 rfl rfl)
theorem dX7_scan_243 : decode cX7_scan 243 = .ok (.putfield 167, 3) := dk_181 0 167 (dk_at dksX7_scan_10 13 rfl rfl)
theorem dX7_scan_246 : decode cX7_scan 246 = .ok (.goto 46, 3) := dk_167 0 46 (dk_at dksX7_scan_10 16 rfl rfl)
theorem dX7_scan_249 : decode cX7_scan 249 = .ok (.aload_n 0, 1) := dk_42 (dk_at dksX7_scan_10 19 rfl rfl)
theorem dX7_scan_250 : decode cX7_scan 250 = .ok (.iload_n 1, 1) := dk_27 (dk_at dksX7_scan_10 20 rfl rfl)
theorem dX7_scan_251 : decode cX7_scan 251 = .ok (.bipush 59, 2) := dk_16 59 (dk_at dksX7_scan_10 21 rfl rfl)
theorem dX7_scan_253 : decode cX7_scan 253 = .ok (.if_icmp .eq 21, 3) := dk_159 0 21 (dk_at dksX7_scan_11 0 rfl rfl)
theorem dX7_scan_256 : decode cX7_scan 256 = .ok (.iload_n 1, 1) := dk_27 (dk_at dksX7_scan_11 3 rfl rfl)
theorem dX7_scan_257 : decode cX7_scan 257 = .ok (.bipush 40, 2) := dk_16 40 (dk_at dksX7_scan_11 4 rfl rfl)
theorem dX7_scan_259 : decode cX7_scan 259 = .ok (.if_icmp .eq 15, 3) := dk_159 0 15 (dk_at dksX7_scan_11 6 rfl rfl)
theorem dX7_scan_262 : decode cX7_scan 262 = .ok (.iload_n 1, 1) := dk_27 (dk_at dksX7_scan_11 9 rfl rfl)
theorem dX7_scan_263 : decode cX7_scan 263 = .ok (.bipush 41, 2) := dk_16 41 (dk_at dksX7_scan_11 10 rfl rfl)
theorem dX7_scan_265 : decode cX7_scan 265 = .ok (.if_icmp .eq 9, 3) := dk_159 0 9 (dk_at dksX7_scan_11 12 rfl rfl)
theorem dX7_scan_268 : decode cX7_scan 268 = .ok (.iload_n 1, 1) := dk_27 (dk_at dksX7_scan_11 15 rfl rfl)
theorem dX7_scan_269 : decode cX7_scan 269 = .ok (.bipush 45, 2) := dk_16 45 (dk_at dksX7_scan_11 16 rfl rfl)
theorem dX7_scan_271 : decode cX7_scan 271 = .ok (.if_icmp .ne 7, 3) := dk_160 0 7 (dk_at dksX7_scan_11 18 rfl rfl)
theorem dX7_scan_274 : decode cX7_scan 274 = .ok (.iconst 3, 1) := dk_6 (dk_at dksX7_scan_11 21 rfl rfl)
theorem dX7_scan_275 : decode cX7_scan 275 = .ok (.goto 4, 3) := dk_167 0 4 (dk_at dksX7_scan_12 0 rfl rfl)
theorem dX7_scan_278 : decode cX7_scan 278 = .ok (.iconst 4, 1) := dk_7 (dk_at dksX7_scan_12 3 rfl rfl)
theorem dX7_scan_279 : decode cX7_scan 279 = .ok (.putfield 167, 3) := dk_181 0 167 (dk_at dksX7_scan_12 4 rfl rfl)
theorem dX7_scan_282 : decode cX7_scan 282 = .ok (.aload_n 0, 1) := dk_42 (dk_at dksX7_scan_12 7 rfl rfl)
theorem dX7_scan_283 : decode cX7_scan 283 = .ok (.dup, 1) := dk_89 (dk_at dksX7_scan_12 8 rfl rfl)
theorem dX7_scan_284 : decode cX7_scan 284 = .ok (.getfield 159, 3) := dk_180 0 159 (dk_at dksX7_scan_12 9 rfl rfl)
theorem dX7_scan_287 : decode cX7_scan 287 = .ok (.iconst 1, 1) := dk_4 (dk_at dksX7_scan_12 12 rfl rfl)
theorem dX7_scan_288 : decode cX7_scan 288 = .ok (.iadd, 1) := dk_96 (dk_at dksX7_scan_12 13 rfl rfl)
theorem dX7_scan_289 : decode cX7_scan 289 = .ok (.putfield 159, 3) := dk_181 0 159 (dk_at dksX7_scan_12 14 rfl rfl)
theorem dX7_scan_292 : decode cX7_scan 292 = .ok (.return_, 1) := dk_177 (dk_at dksX7_scan_12 17 rfl rfl)
abbrev iX7_scan : xM := (yX7_scan, cX7_scan, 2, none, [])
theorem mX7_scan : xOkM iX7_scan := ⟨by decide +kernel, by decide, q3669, q175⟩
abbrev cX7_see : ByteArray := prog_15_method_42_code
def yX7_see : MethodName := ⟨RX7, "see", "(I)I"⟩
def dkwX7_see_0 : List UInt8 := [27, 42, 180, 0, 148, 162, 0, 12, 42, 180, 0, 45, 27, 46, 167, 0, 4, 2, 172]
abbrev dktX7_see_0 : List UInt8 := dkwX7_see_0 ++ []
theorem dksX7_see_0 : cX7_see.data.toList.drop 0 = dktX7_see_0 := by decide +kernel
theorem dX7_see_0 : decode cX7_see 0 = .ok (.iload_n 1, 1) := dk_27 (dk_at dksX7_see_0 0 rfl rfl)
theorem dX7_see_1 : decode cX7_see 1 = .ok (.aload_n 0, 1) := dk_42 (dk_at dksX7_see_0 1 rfl rfl)
theorem dX7_see_2 : decode cX7_see 2 = .ok (.getfield 148, 3) := dk_180 0 148 (dk_at dksX7_see_0 2 rfl rfl)
theorem dX7_see_5 : decode cX7_see 5 = .ok (.if_icmp .ge 12, 3) := dk_162 0 12 (dk_at dksX7_see_0 5 rfl rfl)
theorem dX7_see_8 : decode cX7_see 8 = .ok (.aload_n 0, 1) := dk_42 (dk_at dksX7_see_0 8 rfl rfl)
theorem dX7_see_9 : decode cX7_see 9 = .ok (.getfield 45, 3) := dk_180 0 45 (dk_at dksX7_see_0 9 rfl rfl)
theorem dX7_see_12 : decode cX7_see 12 = .ok (.iload_n 1, 1) := dk_27 (dk_at dksX7_see_0 12 rfl rfl)
theorem dX7_see_13 : decode cX7_see 13 = .ok (.iaload, 1) := dk_46 (dk_at dksX7_see_0 13 rfl rfl)
theorem dX7_see_14 : decode cX7_see 14 = .ok (.goto 4, 3) := dk_167 0 4 (dk_at dksX7_see_0 14 rfl rfl)
theorem dX7_see_17 : decode cX7_see 17 = .ok (.iconst (-1), 1) := dk_2 (dk_at dksX7_see_0 17 rfl rfl)
theorem dX7_see_18 : decode cX7_see 18 = .ok (.ireturn, 1) := dk_172 (dk_at dksX7_see_0 18 rfl rfl)
abbrev iX7_see : xM := (yX7_see, cX7_see, 2, (some .int), [])
theorem mX7_see : xOkM iX7_see := ⟨by decide +kernel, by decide, q3673, q175⟩
abbrev cX7_isSmall : ByteArray := prog_15_method_43_code
def yX7_isSmall : MethodName := ⟨RX7, "isSmall", "(I)Z"⟩
def dkwX7_isSmall_0 : List UInt8 := [26, 133, 20, 0, 151, 20, 0, 153, 184, 0, 144, 172]
abbrev dktX7_isSmall_0 : List UInt8 := dkwX7_isSmall_0 ++ []
theorem dksX7_isSmall_0 : cX7_isSmall.data.toList.drop 0 = dktX7_isSmall_0 := by decide +kernel
theorem dX7_isSmall_0 : decode cX7_isSmall 0 = .ok (.iload_n 0, 1) := dk_26 (dk_at dksX7_isSmall_0 0 rfl rfl)
theorem dX7_isSmall_1 : decode cX7_isSmall 1 = .ok (.i2l, 1) := dk_133 (dk_at dksX7_isSmall_0 1 rfl rfl)
theorem dX7_isSmall_2 : decode cX7_isSmall 2 = .ok (.ldc2_w 151, 3) := dk_20 0 151 (dk_at dksX7_isSmall_0 2 rfl rfl)
theorem dX7_isSmall_5 : decode cX7_isSmall 5 = .ok (.ldc2_w 153, 3) := dk_20 0 153 (dk_at dksX7_isSmall_0 5 rfl rfl)
theorem dX7_isSmall_8 : decode cX7_isSmall 8 = .ok (.invokestatic 144, 3) := dk_184 0 144 (dk_at dksX7_isSmall_0 8 rfl rfl)
theorem dX7_isSmall_11 : decode cX7_isSmall 11 = .ok (.ireturn, 1) := dk_172 (dk_at dksX7_isSmall_0 11 rfl rfl)
abbrev iX7_isSmall : xM := (yX7_isSmall, cX7_isSmall, 1, (some .boolean), [])
theorem mX7_isSmall : xOkM iX7_isSmall := ⟨by decide +kernel, by decide, q3676, q175⟩
abbrev cX7_isDigit : ByteArray := prog_15_method_44_code
def yX7_isDigit : MethodName := ⟨RX7, "isDigit", "(I)Z"⟩
def dkwX7_isDigit_0 : List UInt8 := [26, 133, 20, 0, 155, 20, 0, 157, 184, 0, 144, 172]
abbrev dktX7_isDigit_0 : List UInt8 := dkwX7_isDigit_0 ++ []
theorem dksX7_isDigit_0 : cX7_isDigit.data.toList.drop 0 = dktX7_isDigit_0 := by decide +kernel
theorem dX7_isDigit_0 : decode cX7_isDigit 0 = .ok (.iload_n 0, 1) := dk_26 (dk_at dksX7_isDigit_0 0 rfl rfl)
theorem dX7_isDigit_1 : decode cX7_isDigit 1 = .ok (.i2l, 1) := dk_133 (dk_at dksX7_isDigit_0 1 rfl rfl)
theorem dX7_isDigit_2 : decode cX7_isDigit 2 = .ok (.ldc2_w 155, 3) := dk_20 0 155 (dk_at dksX7_isDigit_0 2 rfl rfl)
theorem dX7_isDigit_5 : decode cX7_isDigit 5 = .ok (.ldc2_w 157, 3) := dk_20 0 157 (dk_at dksX7_isDigit_0 5 rfl rfl)
theorem dX7_isDigit_8 : decode cX7_isDigit 8 = .ok (.invokestatic 144, 3) := dk_184 0 144 (dk_at dksX7_isDigit_0 8 rfl rfl)
theorem dX7_isDigit_11 : decode cX7_isDigit 11 = .ok (.ireturn, 1) := dk_172 (dk_at dksX7_isDigit_0 11 rfl rfl)
abbrev iX7_isDigit : xM := (yX7_isDigit, cX7_isDigit, 1, (some .boolean), [])
theorem mX7_isDigit : xOkM iX7_isDigit := ⟨by decide +kernel, by decide, q3683, q175⟩
abbrev cX7_setup : ByteArray := prog_15_method_57_code
def yX7_setup : MethodName := ⟨RX7, "setup", "()V"⟩
def dkwX7_setup_7 : List UInt8 := [167, 255, 210, 42, 42, 180, 0, 167, 154, 0, 7, 4, 167, 0, 4, 3, 4, 182, 0, 201, 177]
abbrev dktX7_setup_7 : List UInt8 := dkwX7_setup_7 ++ []
def dkwX7_setup_6 : List UInt8 := [167, 0, 4, 3, 7, 182, 0, 201, 42, 182, 0, 205, 42, 182, 0, 237, 42, 16, 59, 182, 0, 232]
abbrev dktX7_setup_6 : List UInt8 := dkwX7_setup_6 ++ dktX7_setup_7
def dkwX7_setup_5 : List UInt8 := [20, 0, 235, 182, 0, 226, 153, 0, 42, 42, 42, 180, 0, 7, 16, 13, 46, 16, 10, 162, 0, 7, 4]
abbrev dktX7_setup_5 : List UInt8 := dkwX7_setup_5 ++ dktX7_setup_6
def dkwX7_setup_4 : List UInt8 := [167, 255, 232, 42, 16, 59, 182, 0, 232, 42, 42, 20, 0, 235, 182, 0, 226, 4, 182, 0, 201, 42]
abbrev dktX7_setup_4 : List UInt8 := dkwX7_setup_4 ++ dktX7_setup_5
def dkwX7_setup_3 : List UInt8 := [7, 162, 0, 25, 42, 180, 0, 7, 16, 9, 27, 96, 42, 3, 16, 9, 182, 0, 208, 79, 132, 1, 1]
abbrev dktX7_setup_3 : List UInt8 := dkwX7_setup_3 ++ dktX7_setup_4
def dkwX7_setup_2 : List UInt8 := [42, 3, 16, 99, 182, 0, 208, 79, 42, 180, 0, 7, 7, 42, 3, 16, 99, 182, 0, 208, 79, 3, 60, 27]
abbrev dktX7_setup_2 : List UInt8 := dkwX7_setup_2 ++ dktX7_setup_3
def dkwX7_setup_1 : List UInt8 := [16, 40, 182, 0, 208, 79, 42, 180, 0, 7, 5, 42, 3, 16, 40, 182, 0, 208, 79, 42, 180, 0, 7, 6]
abbrev dktX7_setup_1 : List UInt8 := dkwX7_setup_1 ++ dktX7_setup_2
def dkwX7_setup_0 : List UInt8 := [42, 42, 20, 0, 230, 182, 0, 226, 4, 182, 0, 201, 42, 182, 0, 205, 42, 180, 0, 7, 4, 42, 3]
abbrev dktX7_setup_0 : List UInt8 := dkwX7_setup_0 ++ dktX7_setup_1
theorem dksX7_setup_0 : cX7_setup.data.toList.drop 0 = dktX7_setup_0 := by decide +kernel
theorem dksX7_setup_1 : cX7_setup.data.toList.drop 23 = dktX7_setup_1 := dk_seg dksX7_setup_0 23 rfl rfl
theorem dksX7_setup_2 : cX7_setup.data.toList.drop 47 = dktX7_setup_2 := dk_seg dksX7_setup_1 24 rfl rfl
theorem dksX7_setup_3 : cX7_setup.data.toList.drop 71 = dktX7_setup_3 := dk_seg dksX7_setup_2 24 rfl rfl
theorem dksX7_setup_4 : cX7_setup.data.toList.drop 94 = dktX7_setup_4 := dk_seg dksX7_setup_3 23 rfl rfl
theorem dksX7_setup_5 : cX7_setup.data.toList.drop 116 = dktX7_setup_5 := dk_seg dksX7_setup_4 22 rfl rfl
theorem dksX7_setup_6 : cX7_setup.data.toList.drop 139 = dktX7_setup_6 := dk_seg dksX7_setup_5 23 rfl rfl
theorem dksX7_setup_7 : cX7_setup.data.toList.drop 161 = dktX7_setup_7 := dk_seg dksX7_setup_6 22 rfl rfl
theorem dX7_setup_0 : decode cX7_setup 0 = .ok (.aload_n 0, 1) := dk_42 (dk_at dksX7_setup_0 0 rfl rfl)
theorem dX7_setup_1 : decode cX7_setup 1 = .ok (.aload_n 0, 1) := dk_42 (dk_at dksX7_setup_0 1 rfl rfl)
theorem dX7_setup_2 : decode cX7_setup 2 = .ok (.ldc2_w 230, 3) := dk_20 0 230 (dk_at dksX7_setup_0 2 rfl rfl)
theorem dX7_setup_5 : decode cX7_setup 5 = .ok (.invokevirtual 226, 3) := dk_182 0 226 (dk_at dksX7_setup_0 5 rfl rfl)
theorem dX7_setup_8 : decode cX7_setup 8 = .ok (.iconst 1, 1) := dk_4 (dk_at dksX7_setup_0 8 rfl rfl)
theorem dX7_setup_9 : decode cX7_setup 9 = .ok (.invokevirtual 201, 3) := dk_182 0 201 (dk_at dksX7_setup_0 9 rfl rfl)
theorem dX7_setup_12 : decode cX7_setup 12 = .ok (.aload_n 0, 1) := dk_42 (dk_at dksX7_setup_0 12 rfl rfl)
theorem dX7_setup_13 : decode cX7_setup 13 = .ok (.invokevirtual 205, 3) := dk_182 0 205 (dk_at dksX7_setup_0 13 rfl rfl)
theorem dX7_setup_16 : decode cX7_setup 16 = .ok (.aload_n 0, 1) := dk_42 (dk_at dksX7_setup_0 16 rfl rfl)
theorem dX7_setup_17 : decode cX7_setup 17 = .ok (.getfield 7, 3) := dk_180 0 7 (dk_at dksX7_setup_0 17 rfl rfl)
theorem dX7_setup_20 : decode cX7_setup 20 = .ok (.iconst 1, 1) := dk_4 (dk_at dksX7_setup_0 20 rfl rfl)
theorem dX7_setup_21 : decode cX7_setup 21 = .ok (.aload_n 0, 1) := dk_42 (dk_at dksX7_setup_0 21 rfl rfl)
theorem dX7_setup_22 : decode cX7_setup 22 = .ok (.iconst 0, 1) := dk_3 (dk_at dksX7_setup_0 22 rfl rfl)
theorem dX7_setup_23 : decode cX7_setup 23 = .ok (.bipush 40, 2) := dk_16 40 (dk_at dksX7_setup_1 0 rfl rfl)
theorem dX7_setup_25 : decode cX7_setup 25 = .ok (.invokevirtual 208, 3) := dk_182 0 208 (dk_at dksX7_setup_1 2 rfl rfl)
theorem dX7_setup_28 : decode cX7_setup 28 = .ok (.iastore, 1) := dk_79 (dk_at dksX7_setup_1 5 rfl rfl)
theorem dX7_setup_29 : decode cX7_setup 29 = .ok (.aload_n 0, 1) := dk_42 (dk_at dksX7_setup_1 6 rfl rfl)
theorem dX7_setup_30 : decode cX7_setup 30 = .ok (.getfield 7, 3) := dk_180 0 7 (dk_at dksX7_setup_1 7 rfl rfl)
theorem dX7_setup_33 : decode cX7_setup 33 = .ok (.iconst 2, 1) := dk_5 (dk_at dksX7_setup_1 10 rfl rfl)
theorem dX7_setup_34 : decode cX7_setup 34 = .ok (.aload_n 0, 1) := dk_42 (dk_at dksX7_setup_1 11 rfl rfl)
theorem dX7_setup_35 : decode cX7_setup 35 = .ok (.iconst 0, 1) := dk_3 (dk_at dksX7_setup_1 12 rfl rfl)
theorem dX7_setup_36 : decode cX7_setup 36 = .ok (.bipush 40, 2) := dk_16 40 (dk_at dksX7_setup_1 13 rfl rfl)
theorem dX7_setup_38 : decode cX7_setup 38 = .ok (.invokevirtual 208, 3) := dk_182 0 208 (dk_at dksX7_setup_1 15 rfl rfl)
theorem dX7_setup_41 : decode cX7_setup 41 = .ok (.iastore, 1) := dk_79 (dk_at dksX7_setup_1 18 rfl rfl)
theorem dX7_setup_42 : decode cX7_setup 42 = .ok (.aload_n 0, 1) := dk_42 (dk_at dksX7_setup_1 19 rfl rfl)
theorem dX7_setup_43 : decode cX7_setup 43 = .ok (.getfield 7, 3) := dk_180 0 7 (dk_at dksX7_setup_1 20 rfl rfl)
theorem dX7_setup_46 : decode cX7_setup 46 = .ok (.iconst 3, 1) := dk_6 (dk_at dksX7_setup_1 23 rfl rfl)
theorem dX7_setup_47 : decode cX7_setup 47 = .ok (.aload_n 0, 1) := dk_42 (dk_at dksX7_setup_2 0 rfl rfl)
theorem dX7_setup_48 : decode cX7_setup 48 = .ok (.iconst 0, 1) := dk_3 (dk_at dksX7_setup_2 1 rfl rfl)
theorem dX7_setup_49 : decode cX7_setup 49 = .ok (.bipush 99, 2) := dk_16 99 (dk_at dksX7_setup_2 2 rfl rfl)
theorem dX7_setup_51 : decode cX7_setup 51 = .ok (.invokevirtual 208, 3) := dk_182 0 208 (dk_at dksX7_setup_2 4 rfl rfl)
theorem dX7_setup_54 : decode cX7_setup 54 = .ok (.iastore, 1) := dk_79 (dk_at dksX7_setup_2 7 rfl rfl)
theorem dX7_setup_55 : decode cX7_setup 55 = .ok (.aload_n 0, 1) := dk_42 (dk_at dksX7_setup_2 8 rfl rfl)
theorem dX7_setup_56 : decode cX7_setup 56 = .ok (.getfield 7, 3) := dk_180 0 7 (dk_at dksX7_setup_2 9 rfl rfl)
theorem dX7_setup_59 : decode cX7_setup 59 = .ok (.iconst 4, 1) := dk_7 (dk_at dksX7_setup_2 12 rfl rfl)
theorem dX7_setup_60 : decode cX7_setup 60 = .ok (.aload_n 0, 1) := dk_42 (dk_at dksX7_setup_2 13 rfl rfl)
theorem dX7_setup_61 : decode cX7_setup 61 = .ok (.iconst 0, 1) := dk_3 (dk_at dksX7_setup_2 14 rfl rfl)
theorem dX7_setup_62 : decode cX7_setup 62 = .ok (.bipush 99, 2) := dk_16 99 (dk_at dksX7_setup_2 15 rfl rfl)
theorem dX7_setup_64 : decode cX7_setup 64 = .ok (.invokevirtual 208, 3) := dk_182 0 208 (dk_at dksX7_setup_2 17 rfl rfl)
theorem dX7_setup_67 : decode cX7_setup 67 = .ok (.iastore, 1) := dk_79 (dk_at dksX7_setup_2 20 rfl rfl)
theorem dX7_setup_68 : decode cX7_setup 68 = .ok (.iconst 0, 1) := dk_3 (dk_at dksX7_setup_2 21 rfl rfl)
theorem dX7_setup_69 : decode cX7_setup 69 = .ok (.istore_n 1, 1) := dk_60 (dk_at dksX7_setup_2 22 rfl rfl)
theorem dX7_setup_70 : decode cX7_setup 70 = .ok (.iload_n 1, 1) := dk_27 (dk_at dksX7_setup_2 23 rfl rfl)
theorem dX7_setup_71 : decode cX7_setup 71 = .ok (.iconst 4, 1) := dk_7 (dk_at dksX7_setup_3 0 rfl rfl)
theorem dX7_setup_72 : decode cX7_setup 72 = .ok (.if_icmp .ge 25, 3) := dk_162 0 25 (dk_at dksX7_setup_3 1 rfl rfl)
theorem dX7_setup_75 : decode cX7_setup 75 = .ok (.aload_n 0, 1) := dk_42 (dk_at dksX7_setup_3 4 rfl rfl)
theorem dX7_setup_76 : decode cX7_setup 76 = .ok (.getfield 7, 3) := dk_180 0 7 (dk_at dksX7_setup_3 5 rfl rfl)
theorem dX7_setup_79 : decode cX7_setup 79 = .ok (.bipush 9, 2) := dk_16 9 (dk_at dksX7_setup_3 8 rfl rfl)
theorem dX7_setup_81 : decode cX7_setup 81 = .ok (.iload_n 1, 1) := dk_27 (dk_at dksX7_setup_3 10 rfl rfl)
theorem dX7_setup_82 : decode cX7_setup 82 = .ok (.iadd, 1) := dk_96 (dk_at dksX7_setup_3 11 rfl rfl)
theorem dX7_setup_83 : decode cX7_setup 83 = .ok (.aload_n 0, 1) := dk_42 (dk_at dksX7_setup_3 12 rfl rfl)
theorem dX7_setup_84 : decode cX7_setup 84 = .ok (.iconst 0, 1) := dk_3 (dk_at dksX7_setup_3 13 rfl rfl)
theorem dX7_setup_85 : decode cX7_setup 85 = .ok (.bipush 9, 2) := dk_16 9 (dk_at dksX7_setup_3 14 rfl rfl)
theorem dX7_setup_87 : decode cX7_setup 87 = .ok (.invokevirtual 208, 3) := dk_182 0 208 (dk_at dksX7_setup_3 16 rfl rfl)
theorem dX7_setup_90 : decode cX7_setup 90 = .ok (.iastore, 1) := dk_79 (dk_at dksX7_setup_3 19 rfl rfl)
theorem dX7_setup_91 : decode cX7_setup 91 = .ok (.iinc 1 1, 3) := dk_132 1 1 (dk_at dksX7_setup_3 20 rfl rfl)
theorem dX7_setup_94 : decode cX7_setup 94 = .ok (.goto (-24), 3) := dk_167 255 232 (dk_at dksX7_setup_4 0 rfl rfl)
theorem dX7_setup_97 : decode cX7_setup 97 = .ok (.aload_n 0, 1) := dk_42 (dk_at dksX7_setup_4 3 rfl rfl)
theorem dX7_setup_98 : decode cX7_setup 98 = .ok (.bipush 59, 2) := dk_16 59 (dk_at dksX7_setup_4 4 rfl rfl)
theorem dX7_setup_100 : decode cX7_setup 100 = .ok (.invokevirtual 232, 3) := dk_182 0 232 (dk_at dksX7_setup_4 6 rfl rfl)
theorem dX7_setup_103 : decode cX7_setup 103 = .ok (.aload_n 0, 1) := dk_42 (dk_at dksX7_setup_4 9 rfl rfl)
theorem dX7_setup_104 : decode cX7_setup 104 = .ok (.aload_n 0, 1) := dk_42 (dk_at dksX7_setup_4 10 rfl rfl)
theorem dX7_setup_105 : decode cX7_setup 105 = .ok (.ldc2_w 235, 3) := dk_20 0 235 (dk_at dksX7_setup_4 11 rfl rfl)
theorem dX7_setup_108 : decode cX7_setup 108 = .ok (.invokevirtual 226, 3) := dk_182 0 226 (dk_at dksX7_setup_4 14 rfl rfl)
theorem dX7_setup_111 : decode cX7_setup 111 = .ok (.iconst 1, 1) := dk_4 (dk_at dksX7_setup_4 17 rfl rfl)
theorem dX7_setup_112 : decode cX7_setup 112 = .ok (.invokevirtual 201, 3) := dk_182 0 201 (dk_at dksX7_setup_4 18 rfl rfl)
theorem dX7_setup_115 : decode cX7_setup 115 = .ok (.aload_n 0, 1) := dk_42 (dk_at dksX7_setup_4 21 rfl rfl)
theorem dX7_setup_116 : decode cX7_setup 116 = .ok (.ldc2_w 235, 3) := dk_20 0 235 (dk_at dksX7_setup_5 0 rfl rfl)
theorem dX7_setup_119 : decode cX7_setup 119 = .ok (.invokevirtual 226, 3) := dk_182 0 226 (dk_at dksX7_setup_5 3 rfl rfl)
theorem dX7_setup_122 : decode cX7_setup 122 = .ok (.ifCond .eq 42, 3) := dk_153 0 42 (dk_at dksX7_setup_5 6 rfl rfl)
theorem dX7_setup_125 : decode cX7_setup 125 = .ok (.aload_n 0, 1) := dk_42 (dk_at dksX7_setup_5 9 rfl rfl)
theorem dX7_setup_126 : decode cX7_setup 126 = .ok (.aload_n 0, 1) := dk_42 (dk_at dksX7_setup_5 10 rfl rfl)
theorem dX7_setup_127 : decode cX7_setup 127 = .ok (.getfield 7, 3) := dk_180 0 7 (dk_at dksX7_setup_5 11 rfl rfl)
theorem dX7_setup_130 : decode cX7_setup 130 = .ok (.bipush 13, 2) := dk_16 13 (dk_at dksX7_setup_5 14 rfl rfl)
theorem dX7_setup_132 : decode cX7_setup 132 = .ok (.iaload, 1) := dk_46 (dk_at dksX7_setup_5 16 rfl rfl)
theorem dX7_setup_133 : decode cX7_setup 133 = .ok (.bipush 10, 2) := dk_16 10 (dk_at dksX7_setup_5 17 rfl rfl)
theorem dX7_setup_135 : decode cX7_setup 135 = .ok (.if_icmp .ge 7, 3) := dk_162 0 7 (dk_at dksX7_setup_5 19 rfl rfl)
theorem dX7_setup_138 : decode cX7_setup 138 = .ok (.iconst 1, 1) := dk_4 (dk_at dksX7_setup_5 22 rfl rfl)
theorem dX7_setup_139 : decode cX7_setup 139 = .ok (.goto 4, 3) := dk_167 0 4 (dk_at dksX7_setup_6 0 rfl rfl)
theorem dX7_setup_142 : decode cX7_setup 142 = .ok (.iconst 0, 1) := dk_3 (dk_at dksX7_setup_6 3 rfl rfl)
theorem dX7_setup_143 : decode cX7_setup 143 = .ok (.iconst 4, 1) := dk_7 (dk_at dksX7_setup_6 4 rfl rfl)
theorem dX7_setup_144 : decode cX7_setup 144 = .ok (.invokevirtual 201, 3) := dk_182 0 201 (dk_at dksX7_setup_6 5 rfl rfl)
theorem dX7_setup_147 : decode cX7_setup 147 = .ok (.aload_n 0, 1) := dk_42 (dk_at dksX7_setup_6 8 rfl rfl)
theorem dX7_setup_148 : decode cX7_setup 148 = .ok (.invokevirtual 205, 3) := dk_182 0 205 (dk_at dksX7_setup_6 9 rfl rfl)
theorem dX7_setup_151 : decode cX7_setup 151 = .ok (.aload_n 0, 1) := dk_42 (dk_at dksX7_setup_6 12 rfl rfl)
theorem dX7_setup_152 : decode cX7_setup 152 = .ok (.invokevirtual 237, 3) := dk_182 0 237 (dk_at dksX7_setup_6 13 rfl rfl)
theorem dX7_setup_155 : decode cX7_setup 155 = .ok (.aload_n 0, 1) := dk_42 (dk_at dksX7_setup_6 16 rfl rfl)
theorem dX7_setup_156 : decode cX7_setup 156 = .ok (.bipush 59, 2) := dk_16 59 (dk_at dksX7_setup_6 17 rfl rfl)
theorem dX7_setup_158 : decode cX7_setup 158 = .ok (.invokevirtual 232, 3) := dk_182 0 232 (dk_at dksX7_setup_6 19 rfl rfl)
theorem dX7_setup_161 : decode cX7_setup 161 = .ok (.goto (-46), 3) := dk_167 255 210 (dk_at dksX7_setup_7 0 rfl rfl)
theorem dX7_setup_164 : decode cX7_setup 164 = .ok (.aload_n 0, 1) := dk_42 (dk_at dksX7_setup_7 3 rfl rfl)
theorem dX7_setup_165 : decode cX7_setup 165 = .ok (.aload_n 0, 1) := dk_42 (dk_at dksX7_setup_7 4 rfl rfl)
theorem dX7_setup_166 : decode cX7_setup 166 = .ok (.getfield 167, 3) := dk_180 0 167 (dk_at dksX7_setup_7 5 rfl rfl)
theorem dX7_setup_169 : decode cX7_setup 169 = .ok (.ifCond .ne 7, 3) := dk_154 0 7 (dk_at dksX7_setup_7 8 rfl rfl)
theorem dX7_setup_172 : decode cX7_setup 172 = .ok (.iconst 1, 1) := dk_4 (dk_at dksX7_setup_7 11 rfl rfl)
theorem dX7_setup_173 : decode cX7_setup 173 = .ok (.goto 4, 3) := dk_167 0 4 (dk_at dksX7_setup_7 12 rfl rfl)
theorem dX7_setup_176 : decode cX7_setup 176 = .ok (.iconst 0, 1) := dk_3 (dk_at dksX7_setup_7 15 rfl rfl)
theorem dX7_setup_177 : decode cX7_setup 177 = .ok (.iconst 1, 1) := dk_4 (dk_at dksX7_setup_7 16 rfl rfl)
theorem dX7_setup_178 : decode cX7_setup 178 = .ok (.invokevirtual 201, 3) := dk_182 0 201 (dk_at dksX7_setup_7 17 rfl rfl)
theorem dX7_setup_181 : decode cX7_setup 181 = .ok (.return_, 1) := dk_177 (dk_at dksX7_setup_7 20 rfl rfl)
abbrev iX7_setup : xM := (yX7_setup, cX7_setup, 2, none, [])
theorem mX7_setup : xOkM iX7_setup := ⟨by decide +kernel, by decide, q3690, q175⟩
abbrev cX7_isWord : ByteArray := prog_15_method_50_code
def yX7_isWord : MethodName := ⟨RX7, "isWord", "(J)Z"⟩
def dkwX7_isWord_1 : List UInt8 := [16, 12, 162, 0, 16, 42, 180, 0, 174, 31, 148, 154, 0, 7, 4, 167, 0, 4, 3, 172]
abbrev dktX7_isWord_1 : List UInt8 := dkwX7_isWord_1 ++ []
def dkwX7_isWord_0 : List UInt8 := [42, 180, 0, 189, 154, 0, 38, 42, 180, 0, 167, 4, 160, 0, 30, 42, 180, 0, 159, 42, 180, 0, 164, 100]
abbrev dktX7_isWord_0 : List UInt8 := dkwX7_isWord_0 ++ dktX7_isWord_1
theorem dksX7_isWord_0 : cX7_isWord.data.toList.drop 0 = dktX7_isWord_0 := by decide +kernel
theorem dksX7_isWord_1 : cX7_isWord.data.toList.drop 24 = dktX7_isWord_1 := dk_seg dksX7_isWord_0 24 rfl rfl
theorem dX7_isWord_0 : decode cX7_isWord 0 = .ok (.aload_n 0, 1) := dk_42 (dk_at dksX7_isWord_0 0 rfl rfl)
theorem dX7_isWord_1 : decode cX7_isWord 1 = .ok (.getfield 189, 3) := dk_180 0 189 (dk_at dksX7_isWord_0 1 rfl rfl)
theorem dX7_isWord_4 : decode cX7_isWord 4 = .ok (.ifCond .ne 38, 3) := dk_154 0 38 (dk_at dksX7_isWord_0 4 rfl rfl)
theorem dX7_isWord_7 : decode cX7_isWord 7 = .ok (.aload_n 0, 1) := dk_42 (dk_at dksX7_isWord_0 7 rfl rfl)
theorem dX7_isWord_8 : decode cX7_isWord 8 = .ok (.getfield 167, 3) := dk_180 0 167 (dk_at dksX7_isWord_0 8 rfl rfl)
theorem dX7_isWord_11 : decode cX7_isWord 11 = .ok (.iconst 1, 1) := dk_4 (dk_at dksX7_isWord_0 11 rfl rfl)
theorem dX7_isWord_12 : decode cX7_isWord 12 = .ok (.if_icmp .ne 30, 3) := dk_160 0 30 (dk_at dksX7_isWord_0 12 rfl rfl)
theorem dX7_isWord_15 : decode cX7_isWord 15 = .ok (.aload_n 0, 1) := dk_42 (dk_at dksX7_isWord_0 15 rfl rfl)
theorem dX7_isWord_16 : decode cX7_isWord 16 = .ok (.getfield 159, 3) := dk_180 0 159 (dk_at dksX7_isWord_0 16 rfl rfl)
theorem dX7_isWord_19 : decode cX7_isWord 19 = .ok (.aload_n 0, 1) := dk_42 (dk_at dksX7_isWord_0 19 rfl rfl)
theorem dX7_isWord_20 : decode cX7_isWord 20 = .ok (.getfield 164, 3) := dk_180 0 164 (dk_at dksX7_isWord_0 20 rfl rfl)
theorem dX7_isWord_23 : decode cX7_isWord 23 = .ok (.isub, 1) := dk_100 (dk_at dksX7_isWord_0 23 rfl rfl)
theorem dX7_isWord_24 : decode cX7_isWord 24 = .ok (.bipush 12, 2) := dk_16 12 (dk_at dksX7_isWord_1 0 rfl rfl)
theorem dX7_isWord_26 : decode cX7_isWord 26 = .ok (.if_icmp .ge 16, 3) := dk_162 0 16 (dk_at dksX7_isWord_1 2 rfl rfl)
theorem dX7_isWord_29 : decode cX7_isWord 29 = .ok (.aload_n 0, 1) := dk_42 (dk_at dksX7_isWord_1 5 rfl rfl)
theorem dX7_isWord_30 : decode cX7_isWord 30 = .ok (.getfield 174, 3) := dk_180 0 174 (dk_at dksX7_isWord_1 6 rfl rfl)
theorem dX7_isWord_33 : decode cX7_isWord 33 = .ok (.lload_n 1, 1) := dk_31 (dk_at dksX7_isWord_1 9 rfl rfl)
theorem dX7_isWord_34 : decode cX7_isWord 34 = .ok (.lcmp, 1) := dk_148 (dk_at dksX7_isWord_1 10 rfl rfl)
theorem dX7_isWord_35 : decode cX7_isWord 35 = .ok (.ifCond .ne 7, 3) := dk_154 0 7 (dk_at dksX7_isWord_1 11 rfl rfl)
theorem dX7_isWord_38 : decode cX7_isWord 38 = .ok (.iconst 1, 1) := dk_4 (dk_at dksX7_isWord_1 14 rfl rfl)
theorem dX7_isWord_39 : decode cX7_isWord 39 = .ok (.goto 4, 3) := dk_167 0 4 (dk_at dksX7_isWord_1 15 rfl rfl)
theorem dX7_isWord_42 : decode cX7_isWord 42 = .ok (.iconst 0, 1) := dk_3 (dk_at dksX7_isWord_1 18 rfl rfl)
theorem dX7_isWord_43 : decode cX7_isWord 43 = .ok (.ireturn, 1) := dk_172 (dk_at dksX7_isWord_1 19 rfl rfl)
abbrev iX7_isWord : xM := (yX7_isWord, cX7_isWord, 3, (some .boolean), [])
theorem mX7_isWord : xOkM iX7_isWord := ⟨by decide +kernel, by decide, q3695, q175⟩
abbrev cX7_must : ByteArray := prog_15_method_47_code
def yX7_must : MethodName := ⟨RX7, "must", "(ZI)V"⟩
def dkwX7_must_1 : List UInt8 := [177]
abbrev dktX7_must_1 : List UInt8 := dkwX7_must_1 ++ []
def dkwX7_must_0 : List UInt8 := [42, 180, 0, 189, 154, 0, 20, 27, 154, 0, 16, 42, 28, 181, 0, 189, 42, 42, 180, 0, 164, 181, 0, 192]
abbrev dktX7_must_0 : List UInt8 := dkwX7_must_0 ++ dktX7_must_1
theorem dksX7_must_0 : cX7_must.data.toList.drop 0 = dktX7_must_0 := by decide +kernel
theorem dksX7_must_1 : cX7_must.data.toList.drop 24 = dktX7_must_1 := dk_seg dksX7_must_0 24 rfl rfl
theorem dX7_must_0 : decode cX7_must 0 = .ok (.aload_n 0, 1) := dk_42 (dk_at dksX7_must_0 0 rfl rfl)
theorem dX7_must_1 : decode cX7_must 1 = .ok (.getfield 189, 3) := dk_180 0 189 (dk_at dksX7_must_0 1 rfl rfl)
theorem dX7_must_4 : decode cX7_must 4 = .ok (.ifCond .ne 20, 3) := dk_154 0 20 (dk_at dksX7_must_0 4 rfl rfl)
theorem dX7_must_7 : decode cX7_must 7 = .ok (.iload_n 1, 1) := dk_27 (dk_at dksX7_must_0 7 rfl rfl)
theorem dX7_must_8 : decode cX7_must 8 = .ok (.ifCond .ne 16, 3) := dk_154 0 16 (dk_at dksX7_must_0 8 rfl rfl)
theorem dX7_must_11 : decode cX7_must 11 = .ok (.aload_n 0, 1) := dk_42 (dk_at dksX7_must_0 11 rfl rfl)
theorem dX7_must_12 : decode cX7_must 12 = .ok (.iload_n 2, 1) := dk_28 (dk_at dksX7_must_0 12 rfl rfl)
theorem dX7_must_13 : decode cX7_must 13 = .ok (.putfield 189, 3) := dk_181 0 189 (dk_at dksX7_must_0 13 rfl rfl)
theorem dX7_must_16 : decode cX7_must 16 = .ok (.aload_n 0, 1) := dk_42 (dk_at dksX7_must_0 16 rfl rfl)
theorem dX7_must_17 : decode cX7_must 17 = .ok (.aload_n 0, 1) := dk_42 (dk_at dksX7_must_0 17 rfl rfl)
theorem dX7_must_18 : decode cX7_must 18 = .ok (.getfield 164, 3) := dk_180 0 164 (dk_at dksX7_must_0 18 rfl rfl)
theorem dX7_must_21 : decode cX7_must 21 = .ok (.putfield 192, 3) := dk_181 0 192 (dk_at dksX7_must_0 21 rfl rfl)
theorem dX7_must_24 : decode cX7_must 24 = .ok (.return_, 1) := dk_177 (dk_at dksX7_must_1 0 rfl rfl)
abbrev iX7_must : xM := (yX7_must, cX7_must, 3, none, [])
theorem mX7_must : xOkM iX7_must := ⟨by decide +kernel, by decide, q3699, q175⟩
abbrev cX7_goesOn : ByteArray := prog_15_method_48_code
def yX7_goesOn : MethodName := ⟨RX7, "goesOn", "()V"⟩
def dkwX7_goesOn_0 : List UInt8 := [42, 180, 0, 189, 154, 0, 7, 42, 182, 0, 195, 177]
abbrev dktX7_goesOn_0 : List UInt8 := dkwX7_goesOn_0 ++ []
theorem dksX7_goesOn_0 : cX7_goesOn.data.toList.drop 0 = dktX7_goesOn_0 := by decide +kernel
theorem dX7_goesOn_0 : decode cX7_goesOn 0 = .ok (.aload_n 0, 1) := dk_42 (dk_at dksX7_goesOn_0 0 rfl rfl)
theorem dX7_goesOn_1 : decode cX7_goesOn 1 = .ok (.getfield 189, 3) := dk_180 0 189 (dk_at dksX7_goesOn_0 1 rfl rfl)
theorem dX7_goesOn_4 : decode cX7_goesOn 4 = .ok (.ifCond .ne 7, 3) := dk_154 0 7 (dk_at dksX7_goesOn_0 4 rfl rfl)
theorem dX7_goesOn_7 : decode cX7_goesOn 7 = .ok (.aload_n 0, 1) := dk_42 (dk_at dksX7_goesOn_0 7 rfl rfl)
theorem dX7_goesOn_8 : decode cX7_goesOn 8 = .ok (.invokevirtual 195, 3) := dk_182 0 195 (dk_at dksX7_goesOn_0 8 rfl rfl)
theorem dX7_goesOn_11 : decode cX7_goesOn 11 = .ok (.return_, 1) := dk_177 (dk_at dksX7_goesOn_0 11 rfl rfl)
abbrev iX7_goesOn : xM := (yX7_goesOn, cX7_goesOn, 1, none, [])
theorem mX7_goesOn : xOkM iX7_goesOn := ⟨by decide +kernel, by decide, q3703, q175⟩
abbrev cX7_reads : ByteArray := prog_15_method_53_code
def yX7_reads : MethodName := ⟨RX7, "reads", "(II)I"⟩
def dkwX7_reads_2 : List UInt8 := [154, 0, 7, 29, 167, 0, 4, 27, 172]
abbrev dktX7_reads_2 : List UInt8 := dkwX7_reads_2 ++ []
def dkwX7_reads_1 : List UInt8 := [27, 133, 28, 133, 184, 0, 144, 5, 182, 0, 201, 42, 180, 0, 185, 62, 42, 182, 0, 205, 42, 180, 0, 189]
abbrev dktX7_reads_1 : List UInt8 := dkwX7_reads_1 ++ dktX7_reads_2
def dkwX7_reads_0 : List UInt8 := [42, 42, 180, 0, 167, 5, 160, 0, 7, 4, 167, 0, 4, 3, 4, 182, 0, 201, 42, 42, 180, 0, 185, 133]
abbrev dktX7_reads_0 : List UInt8 := dkwX7_reads_0 ++ dktX7_reads_1
theorem dksX7_reads_0 : cX7_reads.data.toList.drop 0 = dktX7_reads_0 := by decide +kernel
theorem dksX7_reads_1 : cX7_reads.data.toList.drop 24 = dktX7_reads_1 := dk_seg dksX7_reads_0 24 rfl rfl
theorem dksX7_reads_2 : cX7_reads.data.toList.drop 48 = dktX7_reads_2 := dk_seg dksX7_reads_1 24 rfl rfl
theorem dX7_reads_0 : decode cX7_reads 0 = .ok (.aload_n 0, 1) := dk_42 (dk_at dksX7_reads_0 0 rfl rfl)
theorem dX7_reads_1 : decode cX7_reads 1 = .ok (.aload_n 0, 1) := dk_42 (dk_at dksX7_reads_0 1 rfl rfl)
theorem dX7_reads_2 : decode cX7_reads 2 = .ok (.getfield 167, 3) := dk_180 0 167 (dk_at dksX7_reads_0 2 rfl rfl)
theorem dX7_reads_5 : decode cX7_reads 5 = .ok (.iconst 2, 1) := dk_5 (dk_at dksX7_reads_0 5 rfl rfl)
theorem dX7_reads_6 : decode cX7_reads 6 = .ok (.if_icmp .ne 7, 3) := dk_160 0 7 (dk_at dksX7_reads_0 6 rfl rfl)
theorem dX7_reads_9 : decode cX7_reads 9 = .ok (.iconst 1, 1) := dk_4 (dk_at dksX7_reads_0 9 rfl rfl)
theorem dX7_reads_10 : decode cX7_reads 10 = .ok (.goto 4, 3) := dk_167 0 4 (dk_at dksX7_reads_0 10 rfl rfl)
theorem dX7_reads_13 : decode cX7_reads 13 = .ok (.iconst 0, 1) := dk_3 (dk_at dksX7_reads_0 13 rfl rfl)
theorem dX7_reads_14 : decode cX7_reads 14 = .ok (.iconst 1, 1) := dk_4 (dk_at dksX7_reads_0 14 rfl rfl)
theorem dX7_reads_15 : decode cX7_reads 15 = .ok (.invokevirtual 201, 3) := dk_182 0 201 (dk_at dksX7_reads_0 15 rfl rfl)
theorem dX7_reads_18 : decode cX7_reads 18 = .ok (.aload_n 0, 1) := dk_42 (dk_at dksX7_reads_0 18 rfl rfl)
theorem dX7_reads_19 : decode cX7_reads 19 = .ok (.aload_n 0, 1) := dk_42 (dk_at dksX7_reads_0 19 rfl rfl)
theorem dX7_reads_20 : decode cX7_reads 20 = .ok (.getfield 185, 3) := dk_180 0 185 (dk_at dksX7_reads_0 20 rfl rfl)
theorem dX7_reads_23 : decode cX7_reads 23 = .ok (.i2l, 1) := dk_133 (dk_at dksX7_reads_0 23 rfl rfl)
theorem dX7_reads_24 : decode cX7_reads 24 = .ok (.iload_n 1, 1) := dk_27 (dk_at dksX7_reads_1 0 rfl rfl)
theorem dX7_reads_25 : decode cX7_reads 25 = .ok (.i2l, 1) := dk_133 (dk_at dksX7_reads_1 1 rfl rfl)
theorem dX7_reads_26 : decode cX7_reads 26 = .ok (.iload_n 2, 1) := dk_28 (dk_at dksX7_reads_1 2 rfl rfl)
theorem dX7_reads_27 : decode cX7_reads 27 = .ok (.i2l, 1) := dk_133 (dk_at dksX7_reads_1 3 rfl rfl)
theorem dX7_reads_28 : decode cX7_reads 28 = .ok (.invokestatic 144, 3) := dk_184 0 144 (dk_at dksX7_reads_1 4 rfl rfl)
theorem dX7_reads_31 : decode cX7_reads 31 = .ok (.iconst 2, 1) := dk_5 (dk_at dksX7_reads_1 7 rfl rfl)
theorem dX7_reads_32 : decode cX7_reads 32 = .ok (.invokevirtual 201, 3) := dk_182 0 201 (dk_at dksX7_reads_1 8 rfl rfl)
theorem dX7_reads_35 : decode cX7_reads 35 = .ok (.aload_n 0, 1) := dk_42 (dk_at dksX7_reads_1 11 rfl rfl)
theorem dX7_reads_36 : decode cX7_reads 36 = .ok (.getfield 185, 3) := dk_180 0 185 (dk_at dksX7_reads_1 12 rfl rfl)
theorem dX7_reads_39 : decode cX7_reads 39 = .ok (.istore_n 3, 1) := dk_62 (dk_at dksX7_reads_1 15 rfl rfl)
theorem dX7_reads_40 : decode cX7_reads 40 = .ok (.aload_n 0, 1) := dk_42 (dk_at dksX7_reads_1 16 rfl rfl)
theorem dX7_reads_41 : decode cX7_reads 41 = .ok (.invokevirtual 205, 3) := dk_182 0 205 (dk_at dksX7_reads_1 17 rfl rfl)
theorem dX7_reads_44 : decode cX7_reads 44 = .ok (.aload_n 0, 1) := dk_42 (dk_at dksX7_reads_1 20 rfl rfl)
theorem dX7_reads_45 : decode cX7_reads 45 = .ok (.getfield 189, 3) := dk_180 0 189 (dk_at dksX7_reads_1 21 rfl rfl)
theorem dX7_reads_48 : decode cX7_reads 48 = .ok (.ifCond .ne 7, 3) := dk_154 0 7 (dk_at dksX7_reads_2 0 rfl rfl)
theorem dX7_reads_51 : decode cX7_reads 51 = .ok (.iload_n 3, 1) := dk_29 (dk_at dksX7_reads_2 3 rfl rfl)
theorem dX7_reads_52 : decode cX7_reads 52 = .ok (.goto 4, 3) := dk_167 0 4 (dk_at dksX7_reads_2 4 rfl rfl)
theorem dX7_reads_55 : decode cX7_reads 55 = .ok (.iload_n 1, 1) := dk_27 (dk_at dksX7_reads_2 7 rfl rfl)
theorem dX7_reads_56 : decode cX7_reads 56 = .ok (.ireturn, 1) := dk_172 (dk_at dksX7_reads_2 8 rfl rfl)
abbrev iX7_reads : xM := (yX7_reads, cX7_reads, 4, (some .int), [])
theorem mX7_reads : xOkM iX7_reads := ⟨by decide +kernel, by decide, q3707, q175⟩
abbrev cX7_sign : ByteArray := prog_15_method_52_code
def yX7_sign : MethodName := ⟨RX7, "sign", "(I)V"⟩
def dkwX7_sign_0 : List UInt8 := [42, 42, 27, 182, 0, 198, 4, 182, 0, 201, 42, 182, 0, 205, 177]
abbrev dktX7_sign_0 : List UInt8 := dkwX7_sign_0 ++ []
theorem dksX7_sign_0 : cX7_sign.data.toList.drop 0 = dktX7_sign_0 := by decide +kernel
theorem dX7_sign_0 : decode cX7_sign 0 = .ok (.aload_n 0, 1) := dk_42 (dk_at dksX7_sign_0 0 rfl rfl)
theorem dX7_sign_1 : decode cX7_sign 1 = .ok (.aload_n 0, 1) := dk_42 (dk_at dksX7_sign_0 1 rfl rfl)
theorem dX7_sign_2 : decode cX7_sign 2 = .ok (.iload_n 1, 1) := dk_27 (dk_at dksX7_sign_0 2 rfl rfl)
theorem dX7_sign_3 : decode cX7_sign 3 = .ok (.invokevirtual 198, 3) := dk_182 0 198 (dk_at dksX7_sign_0 3 rfl rfl)
theorem dX7_sign_6 : decode cX7_sign 6 = .ok (.iconst 1, 1) := dk_4 (dk_at dksX7_sign_0 6 rfl rfl)
theorem dX7_sign_7 : decode cX7_sign 7 = .ok (.invokevirtual 201, 3) := dk_182 0 201 (dk_at dksX7_sign_0 7 rfl rfl)
theorem dX7_sign_10 : decode cX7_sign 10 = .ok (.aload_n 0, 1) := dk_42 (dk_at dksX7_sign_0 10 rfl rfl)
theorem dX7_sign_11 : decode cX7_sign 11 = .ok (.invokevirtual 205, 3) := dk_182 0 205 (dk_at dksX7_sign_0 11 rfl rfl)
theorem dX7_sign_14 : decode cX7_sign 14 = .ok (.return_, 1) := dk_177 (dk_at dksX7_sign_0 14 rfl rfl)
abbrev iX7_sign : xM := (yX7_sign, cX7_sign, 2, none, [])
theorem mX7_sign : xOkM iX7_sign := ⟨by decide +kernel, by decide, q3711, q175⟩
abbrev cX7_isSign : ByteArray := prog_15_method_51_code
def yX7_isSign : MethodName := ⟨RX7, "isSign", "(I)Z"⟩
def dkwX7_isSign_1 : List UInt8 := [27, 160, 0, 7, 4, 167, 0, 4, 3, 172]
abbrev dktX7_isSign_1 : List UInt8 := dkwX7_isSign_1 ++ []
def dkwX7_isSign_0 : List UInt8 := [42, 180, 0, 189, 154, 0, 28, 42, 180, 0, 167, 6, 160, 0, 20, 42, 180, 0, 45, 42, 180, 0, 164, 46]
abbrev dktX7_isSign_0 : List UInt8 := dkwX7_isSign_0 ++ dktX7_isSign_1
theorem dksX7_isSign_0 : cX7_isSign.data.toList.drop 0 = dktX7_isSign_0 := by decide +kernel
theorem dksX7_isSign_1 : cX7_isSign.data.toList.drop 24 = dktX7_isSign_1 := dk_seg dksX7_isSign_0 24 rfl rfl
theorem dX7_isSign_0 : decode cX7_isSign 0 = .ok (.aload_n 0, 1) := dk_42 (dk_at dksX7_isSign_0 0 rfl rfl)
theorem dX7_isSign_1 : decode cX7_isSign 1 = .ok (.getfield 189, 3) := dk_180 0 189 (dk_at dksX7_isSign_0 1 rfl rfl)
theorem dX7_isSign_4 : decode cX7_isSign 4 = .ok (.ifCond .ne 28, 3) := dk_154 0 28 (dk_at dksX7_isSign_0 4 rfl rfl)
theorem dX7_isSign_7 : decode cX7_isSign 7 = .ok (.aload_n 0, 1) := dk_42 (dk_at dksX7_isSign_0 7 rfl rfl)
theorem dX7_isSign_8 : decode cX7_isSign 8 = .ok (.getfield 167, 3) := dk_180 0 167 (dk_at dksX7_isSign_0 8 rfl rfl)
theorem dX7_isSign_11 : decode cX7_isSign 11 = .ok (.iconst 3, 1) := dk_6 (dk_at dksX7_isSign_0 11 rfl rfl)
theorem dX7_isSign_12 : decode cX7_isSign 12 = .ok (.if_icmp .ne 20, 3) := dk_160 0 20 (dk_at dksX7_isSign_0 12 rfl rfl)
theorem dX7_isSign_15 : decode cX7_isSign 15 = .ok (.aload_n 0, 1) := dk_42 (dk_at dksX7_isSign_0 15 rfl rfl)
theorem dX7_isSign_16 : decode cX7_isSign 16 = .ok (.getfield 45, 3) := dk_180 0 45 (dk_at dksX7_isSign_0 16 rfl rfl)
theorem dX7_isSign_19 : decode cX7_isSign 19 = .ok (.aload_n 0, 1) := dk_42 (dk_at dksX7_isSign_0 19 rfl rfl)
theorem dX7_isSign_20 : decode cX7_isSign 20 = .ok (.getfield 164, 3) := dk_180 0 164 (dk_at dksX7_isSign_0 20 rfl rfl)
theorem dX7_isSign_23 : decode cX7_isSign 23 = .ok (.iaload, 1) := dk_46 (dk_at dksX7_isSign_0 23 rfl rfl)
theorem dX7_isSign_24 : decode cX7_isSign 24 = .ok (.iload_n 1, 1) := dk_27 (dk_at dksX7_isSign_1 0 rfl rfl)
theorem dX7_isSign_25 : decode cX7_isSign 25 = .ok (.if_icmp .ne 7, 3) := dk_160 0 7 (dk_at dksX7_isSign_1 1 rfl rfl)
theorem dX7_isSign_28 : decode cX7_isSign 28 = .ok (.iconst 1, 1) := dk_4 (dk_at dksX7_isSign_1 4 rfl rfl)
theorem dX7_isSign_29 : decode cX7_isSign 29 = .ok (.goto 4, 3) := dk_167 0 4 (dk_at dksX7_isSign_1 5 rfl rfl)
theorem dX7_isSign_32 : decode cX7_isSign 32 = .ok (.iconst 0, 1) := dk_3 (dk_at dksX7_isSign_1 8 rfl rfl)
theorem dX7_isSign_33 : decode cX7_isSign 33 = .ok (.ireturn, 1) := dk_172 (dk_at dksX7_isSign_1 9 rfl rfl)
abbrev iX7_isSign : xM := (yX7_isSign, cX7_isSign, 2, (some .boolean), [])
theorem mX7_isSign : xOkM iX7_isSign := ⟨by decide +kernel, by decide, q3715, q175⟩
abbrev cX7_fiddlerText : ByteArray := prog_15_method_56_code
def yX7_fiddlerText : MethodName := ⟨RX7, "fiddlerText", "()V"⟩
def dkwX7_fiddlerText_7 : List UInt8 := [132, 4, 1, 167, 255, 226, 177]
abbrev dktX7_fiddlerText_7 : List UInt8 := dkwX7_fiddlerText_7 ++ []
def dkwX7_fiddlerText_6 : List UInt8 := [162, 0, 30, 42, 180, 0, 7, 29, 16, 17, 21, 4, 96, 184, 0, 65, 42, 3, 16, 9, 182, 0, 208, 79]
abbrev dktX7_fiddlerText_6 : List UInt8 := dkwX7_fiddlerText_6 ++ dktX7_fiddlerText_7
def dkwX7_fiddlerText_5 : List UInt8 := [167, 255, 225, 42, 20, 0, 224, 182, 0, 226, 154, 0, 4, 177, 42, 182, 0, 205, 3, 54, 4, 21, 4, 7]
abbrev dktX7_fiddlerText_5 : List UInt8 := dkwX7_fiddlerText_5 ++ dktX7_fiddlerText_6
def dkwX7_fiddlerText_4 : List UInt8 := [180, 0, 7, 29, 16, 9, 21, 4, 96, 184, 0, 65, 42, 3, 17, 0, 200, 182, 0, 221, 79, 132, 4, 1]
abbrev dktX7_fiddlerText_4 : List UInt8 := dkwX7_fiddlerText_4 ++ dktX7_fiddlerText_5
def dkwX7_fiddlerText_3 : List UInt8 := [182, 0, 61, 42, 180, 0, 7, 16, 13, 46, 4, 100, 62, 3, 54, 4, 21, 4, 7, 162, 0, 31, 42]
abbrev dktX7_fiddlerText_3 : List UInt8 := dkwX7_fiddlerText_3 ++ dktX7_fiddlerText_4
def dkwX7_fiddlerText_2 : List UInt8 := [182, 0, 205, 42, 3, 16, 8, 182, 0, 208, 61, 42, 182, 0, 215, 154, 0, 4, 177, 42, 27, 28]
abbrev dktX7_fiddlerText_2 : List UInt8 := dkwX7_fiddlerText_2 ++ dktX7_fiddlerText_3
def dkwX7_fiddlerText_1 : List UInt8 := [182, 0, 218, 2, 160, 0, 7, 4, 167, 0, 4, 3, 6, 182, 0, 201, 42, 180, 0, 174, 136, 60, 42]
abbrev dktX7_fiddlerText_1 : List UInt8 := dkwX7_fiddlerText_1 ++ dktX7_fiddlerText_2
def dkwX7_fiddlerText_0 : List UInt8 := [42, 42, 182, 0, 211, 4, 182, 0, 201, 42, 42, 182, 0, 215, 153, 0, 16, 42, 42, 180, 0, 174, 136]
abbrev dktX7_fiddlerText_0 : List UInt8 := dkwX7_fiddlerText_0 ++ dktX7_fiddlerText_1
theorem dksX7_fiddlerText_0 : cX7_fiddlerText.data.toList.drop 0 = dktX7_fiddlerText_0 := by decide +kernel
theorem dksX7_fiddlerText_1 : cX7_fiddlerText.data.toList.drop 23 = dktX7_fiddlerText_1 := dk_seg dksX7_fiddlerText_0 23 rfl rfl
theorem dksX7_fiddlerText_2 : cX7_fiddlerText.data.toList.drop 46 = dktX7_fiddlerText_2 := dk_seg dksX7_fiddlerText_1 23 rfl rfl
theorem dksX7_fiddlerText_3 : cX7_fiddlerText.data.toList.drop 68 = dktX7_fiddlerText_3 := dk_seg dksX7_fiddlerText_2 22 rfl rfl
theorem dksX7_fiddlerText_4 : cX7_fiddlerText.data.toList.drop 91 = dktX7_fiddlerText_4 := dk_seg dksX7_fiddlerText_3 23 rfl rfl
theorem dksX7_fiddlerText_5 : cX7_fiddlerText.data.toList.drop 115 = dktX7_fiddlerText_5 := dk_seg dksX7_fiddlerText_4 24 rfl rfl
theorem dksX7_fiddlerText_6 : cX7_fiddlerText.data.toList.drop 139 = dktX7_fiddlerText_6 := dk_seg dksX7_fiddlerText_5 24 rfl rfl
theorem dksX7_fiddlerText_7 : cX7_fiddlerText.data.toList.drop 163 = dktX7_fiddlerText_7 := dk_seg dksX7_fiddlerText_6 24 rfl rfl
theorem dX7_fiddlerText_0 : decode cX7_fiddlerText 0 = .ok (.aload_n 0, 1) := dk_42 (dk_at dksX7_fiddlerText_0 0 rfl rfl)
theorem dX7_fiddlerText_1 : decode cX7_fiddlerText 1 = .ok (.aload_n 0, 1) := dk_42 (dk_at dksX7_fiddlerText_0 1 rfl rfl)
theorem dX7_fiddlerText_2 : decode cX7_fiddlerText 2 = .ok (.invokevirtual 211, 3) := dk_182 0 211 (dk_at dksX7_fiddlerText_0 2 rfl rfl)
theorem dX7_fiddlerText_5 : decode cX7_fiddlerText 5 = .ok (.iconst 1, 1) := dk_4 (dk_at dksX7_fiddlerText_0 5 rfl rfl)
theorem dX7_fiddlerText_6 : decode cX7_fiddlerText 6 = .ok (.invokevirtual 201, 3) := dk_182 0 201 (dk_at dksX7_fiddlerText_0 6 rfl rfl)
theorem dX7_fiddlerText_9 : decode cX7_fiddlerText 9 = .ok (.aload_n 0, 1) := dk_42 (dk_at dksX7_fiddlerText_0 9 rfl rfl)
theorem dX7_fiddlerText_10 : decode cX7_fiddlerText 10 = .ok (.aload_n 0, 1) := dk_42 (dk_at dksX7_fiddlerText_0 10 rfl rfl)
theorem dX7_fiddlerText_11 : decode cX7_fiddlerText 11 = .ok (.invokevirtual 215, 3) := dk_182 0 215 (dk_at dksX7_fiddlerText_0 11 rfl rfl)
theorem dX7_fiddlerText_14 : decode cX7_fiddlerText 14 = .ok (.ifCond .eq 16, 3) := dk_153 0 16 (dk_at dksX7_fiddlerText_0 14 rfl rfl)
theorem dX7_fiddlerText_17 : decode cX7_fiddlerText 17 = .ok (.aload_n 0, 1) := dk_42 (dk_at dksX7_fiddlerText_0 17 rfl rfl)
theorem dX7_fiddlerText_18 : decode cX7_fiddlerText 18 = .ok (.aload_n 0, 1) := dk_42 (dk_at dksX7_fiddlerText_0 18 rfl rfl)
theorem dX7_fiddlerText_19 : decode cX7_fiddlerText 19 = .ok (.getfield 174, 3) := dk_180 0 174 (dk_at dksX7_fiddlerText_0 19 rfl rfl)
theorem dX7_fiddlerText_22 : decode cX7_fiddlerText 22 = .ok (.l2i, 1) := dk_136 (dk_at dksX7_fiddlerText_0 22 rfl rfl)
theorem dX7_fiddlerText_23 : decode cX7_fiddlerText 23 = .ok (.invokevirtual 218, 3) := dk_182 0 218 (dk_at dksX7_fiddlerText_1 0 rfl rfl)
theorem dX7_fiddlerText_26 : decode cX7_fiddlerText 26 = .ok (.iconst (-1), 1) := dk_2 (dk_at dksX7_fiddlerText_1 3 rfl rfl)
theorem dX7_fiddlerText_27 : decode cX7_fiddlerText 27 = .ok (.if_icmp .ne 7, 3) := dk_160 0 7 (dk_at dksX7_fiddlerText_1 4 rfl rfl)
theorem dX7_fiddlerText_30 : decode cX7_fiddlerText 30 = .ok (.iconst 1, 1) := dk_4 (dk_at dksX7_fiddlerText_1 7 rfl rfl)
theorem dX7_fiddlerText_31 : decode cX7_fiddlerText 31 = .ok (.goto 4, 3) := dk_167 0 4 (dk_at dksX7_fiddlerText_1 8 rfl rfl)
theorem dX7_fiddlerText_34 : decode cX7_fiddlerText 34 = .ok (.iconst 0, 1) := dk_3 (dk_at dksX7_fiddlerText_1 11 rfl rfl)
theorem dX7_fiddlerText_35 : decode cX7_fiddlerText 35 = .ok (.iconst 3, 1) := dk_6 (dk_at dksX7_fiddlerText_1 12 rfl rfl)
theorem dX7_fiddlerText_36 : decode cX7_fiddlerText 36 = .ok (.invokevirtual 201, 3) := dk_182 0 201 (dk_at dksX7_fiddlerText_1 13 rfl rfl)
theorem dX7_fiddlerText_39 : decode cX7_fiddlerText 39 = .ok (.aload_n 0, 1) := dk_42 (dk_at dksX7_fiddlerText_1 16 rfl rfl)
theorem dX7_fiddlerText_40 : decode cX7_fiddlerText 40 = .ok (.getfield 174, 3) := dk_180 0 174 (dk_at dksX7_fiddlerText_1 17 rfl rfl)
theorem dX7_fiddlerText_43 : decode cX7_fiddlerText 43 = .ok (.l2i, 1) := dk_136 (dk_at dksX7_fiddlerText_1 20 rfl rfl)
theorem dX7_fiddlerText_44 : decode cX7_fiddlerText 44 = .ok (.istore_n 1, 1) := dk_60 (dk_at dksX7_fiddlerText_1 21 rfl rfl)
theorem dX7_fiddlerText_45 : decode cX7_fiddlerText 45 = .ok (.aload_n 0, 1) := dk_42 (dk_at dksX7_fiddlerText_1 22 rfl rfl)
theorem dX7_fiddlerText_46 : decode cX7_fiddlerText 46 = .ok (.invokevirtual 205, 3) := dk_182 0 205 (dk_at dksX7_fiddlerText_2 0 rfl rfl)
theorem dX7_fiddlerText_49 : decode cX7_fiddlerText 49 = .ok (.aload_n 0, 1) := dk_42 (dk_at dksX7_fiddlerText_2 3 rfl rfl)
theorem dX7_fiddlerText_50 : decode cX7_fiddlerText 50 = .ok (.iconst 0, 1) := dk_3 (dk_at dksX7_fiddlerText_2 4 rfl rfl)
theorem dX7_fiddlerText_51 : decode cX7_fiddlerText 51 = .ok (.bipush 8, 2) := dk_16 8 (dk_at dksX7_fiddlerText_2 5 rfl rfl)
theorem dX7_fiddlerText_53 : decode cX7_fiddlerText 53 = .ok (.invokevirtual 208, 3) := dk_182 0 208 (dk_at dksX7_fiddlerText_2 7 rfl rfl)
theorem dX7_fiddlerText_56 : decode cX7_fiddlerText 56 = .ok (.istore_n 2, 1) := dk_61 (dk_at dksX7_fiddlerText_2 10 rfl rfl)
theorem dX7_fiddlerText_57 : decode cX7_fiddlerText 57 = .ok (.aload_n 0, 1) := dk_42 (dk_at dksX7_fiddlerText_2 11 rfl rfl)
theorem dX7_fiddlerText_58 : decode cX7_fiddlerText 58 = .ok (.invokevirtual 215, 3) := dk_182 0 215 (dk_at dksX7_fiddlerText_2 12 rfl rfl)
theorem dX7_fiddlerText_61 : decode cX7_fiddlerText 61 = .ok (.ifCond .ne 4, 3) := dk_154 0 4 (dk_at dksX7_fiddlerText_2 15 rfl rfl)
theorem dX7_fiddlerText_64 : decode cX7_fiddlerText 64 = .ok (.return_, 1) := dk_177 (dk_at dksX7_fiddlerText_2 18 rfl rfl)
theorem dX7_fiddlerText_65 : decode cX7_fiddlerText 65 = .ok (.aload_n 0, 1) := dk_42 (dk_at dksX7_fiddlerText_2 19 rfl rfl)
theorem dX7_fiddlerText_66 : decode cX7_fiddlerText 66 = .ok (.iload_n 1, 1) := dk_27 (dk_at dksX7_fiddlerText_2 20 rfl rfl)
theorem dX7_fiddlerText_67 : decode cX7_fiddlerText 67 = .ok (.iload_n 2, 1) := dk_28 (dk_at dksX7_fiddlerText_2 21 rfl rfl)
theorem dX7_fiddlerText_68 : decode cX7_fiddlerText 68 = .ok (.invokevirtual 61, 3) := dk_182 0 61 (dk_at dksX7_fiddlerText_3 0 rfl rfl)
theorem dX7_fiddlerText_71 : decode cX7_fiddlerText 71 = .ok (.aload_n 0, 1) := dk_42 (dk_at dksX7_fiddlerText_3 3 rfl rfl)
theorem dX7_fiddlerText_72 : decode cX7_fiddlerText 72 = .ok (.getfield 7, 3) := dk_180 0 7 (dk_at dksX7_fiddlerText_3 4 rfl rfl)
theorem dX7_fiddlerText_75 : decode cX7_fiddlerText 75 = .ok (.bipush 13, 2) := dk_16 13 (dk_at dksX7_fiddlerText_3 7 rfl rfl)
theorem dX7_fiddlerText_77 : decode cX7_fiddlerText 77 = .ok (.iaload, 1) := dk_46 (dk_at dksX7_fiddlerText_3 9 rfl rfl)
theorem dX7_fiddlerText_78 : decode cX7_fiddlerText 78 = .ok (.iconst 1, 1) := dk_4 (dk_at dksX7_fiddlerText_3 10 rfl rfl)
theorem dX7_fiddlerText_79 : decode cX7_fiddlerText 79 = .ok (.isub, 1) := dk_100 (dk_at dksX7_fiddlerText_3 11 rfl rfl)
theorem dX7_fiddlerText_80 : decode cX7_fiddlerText 80 = .ok (.istore_n 3, 1) := dk_62 (dk_at dksX7_fiddlerText_3 12 rfl rfl)
theorem dX7_fiddlerText_81 : decode cX7_fiddlerText 81 = .ok (.iconst 0, 1) := dk_3 (dk_at dksX7_fiddlerText_3 13 rfl rfl)
theorem dX7_fiddlerText_82 : decode cX7_fiddlerText 82 = .ok (.istore 4, 2) := dk_54 4 (dk_at dksX7_fiddlerText_3 14 rfl rfl)
theorem dX7_fiddlerText_84 : decode cX7_fiddlerText 84 = .ok (.iload 4, 2) := dk_21 4 (dk_at dksX7_fiddlerText_3 16 rfl rfl)
theorem dX7_fiddlerText_86 : decode cX7_fiddlerText 86 = .ok (.iconst 4, 1) := dk_7 (dk_at dksX7_fiddlerText_3 18 rfl rfl)
theorem dX7_fiddlerText_87 : decode cX7_fiddlerText 87 = .ok (.if_icmp .ge 31, 3) := dk_162 0 31 (dk_at dksX7_fiddlerText_3 19 rfl rfl)
theorem dX7_fiddlerText_90 : decode cX7_fiddlerText 90 = .ok (.aload_n 0, 1) := dk_42 (dk_at dksX7_fiddlerText_3 22 rfl rfl)
theorem dX7_fiddlerText_91 : decode cX7_fiddlerText 91 = .ok (.getfield 7, 3) := dk_180 0 7 (dk_at dksX7_fiddlerText_4 0 rfl rfl)
theorem dX7_fiddlerText_94 : decode cX7_fiddlerText 94 = .ok (.iload_n 3, 1) := dk_29 (dk_at dksX7_fiddlerText_4 3 rfl rfl)
theorem dX7_fiddlerText_95 : decode cX7_fiddlerText 95 = .ok (.bipush 9, 2) := dk_16 9 (dk_at dksX7_fiddlerText_4 4 rfl rfl)
theorem dX7_fiddlerText_97 : decode cX7_fiddlerText 97 = .ok (.iload 4, 2) := dk_21 4 (dk_at dksX7_fiddlerText_4 6 rfl rfl)
theorem dX7_fiddlerText_99 : decode cX7_fiddlerText 99 = .ok (.iadd, 1) := dk_96 (dk_at dksX7_fiddlerText_4 8 rfl rfl)
theorem dX7_fiddlerText_100 : decode cX7_fiddlerText 100 = .ok (.invokestatic 65, 3) := dk_184 0 65 (dk_at dksX7_fiddlerText_4 9 rfl rfl)
theorem dX7_fiddlerText_103 : decode cX7_fiddlerText 103 = .ok (.aload_n 0, 1) := dk_42 (dk_at dksX7_fiddlerText_4 12 rfl rfl)
theorem dX7_fiddlerText_104 : decode cX7_fiddlerText 104 = .ok (.iconst 0, 1) := dk_3 (dk_at dksX7_fiddlerText_4 13 rfl rfl)
theorem dX7_fiddlerText_105 : decode cX7_fiddlerText 105 = .ok (.sipush 200, 3) := dk_17 0 200 (dk_at dksX7_fiddlerText_4 14 rfl rfl)
theorem dX7_fiddlerText_108 : decode cX7_fiddlerText 108 = .ok (.invokevirtual 221, 3) := dk_182 0 221 (dk_at dksX7_fiddlerText_4 17 rfl rfl)
theorem dX7_fiddlerText_111 : decode cX7_fiddlerText 111 = .ok (.iastore, 1) := dk_79 (dk_at dksX7_fiddlerText_4 20 rfl rfl)
theorem dX7_fiddlerText_112 : decode cX7_fiddlerText 112 = .ok (.iinc 4 1, 3) := dk_132 4 1 (dk_at dksX7_fiddlerText_4 21 rfl rfl)
theorem dX7_fiddlerText_115 : decode cX7_fiddlerText 115 = .ok (.goto (-31), 3) := dk_167 255 225 (dk_at dksX7_fiddlerText_5 0 rfl rfl)
theorem dX7_fiddlerText_118 : decode cX7_fiddlerText 118 = .ok (.aload_n 0, 1) := dk_42 (dk_at dksX7_fiddlerText_5 3 rfl rfl)
theorem dX7_fiddlerText_119 : decode cX7_fiddlerText 119 = .ok (.ldc2_w 224, 3) := dk_20 0 224 (dk_at dksX7_fiddlerText_5 4 rfl rfl)
theorem dX7_fiddlerText_122 : decode cX7_fiddlerText 122 = .ok (.invokevirtual 226, 3) := dk_182 0 226 (dk_at dksX7_fiddlerText_5 7 rfl rfl)
theorem dX7_fiddlerText_125 : decode cX7_fiddlerText 125 = .ok (.ifCond .ne 4, 3) := dk_154 0 4 (dk_at dksX7_fiddlerText_5 10 rfl rfl)
theorem dX7_fiddlerText_128 : decode cX7_fiddlerText 128 = .ok (.return_, 1) := dk_177 (dk_at dksX7_fiddlerText_5 13 rfl rfl)
theorem dX7_fiddlerText_129 : decode cX7_fiddlerText 129 = .ok (.aload_n 0, 1) := dk_42 (dk_at dksX7_fiddlerText_5 14 rfl rfl)
theorem dX7_fiddlerText_130 : decode cX7_fiddlerText 130 = .ok (.invokevirtual 205, 3) := dk_182 0 205 (dk_at dksX7_fiddlerText_5 15 rfl rfl)
theorem dX7_fiddlerText_133 : decode cX7_fiddlerText 133 = .ok (.iconst 0, 1) := dk_3 (dk_at dksX7_fiddlerText_5 18 rfl rfl)
theorem dX7_fiddlerText_134 : decode cX7_fiddlerText 134 = .ok (.istore 4, 2) := dk_54 4 (dk_at dksX7_fiddlerText_5 19 rfl rfl)
theorem dX7_fiddlerText_136 : decode cX7_fiddlerText 136 = .ok (.iload 4, 2) := dk_21 4 (dk_at dksX7_fiddlerText_5 21 rfl rfl)
theorem dX7_fiddlerText_138 : decode cX7_fiddlerText 138 = .ok (.iconst 4, 1) := dk_7 (dk_at dksX7_fiddlerText_5 23 rfl rfl)
theorem dX7_fiddlerText_139 : decode cX7_fiddlerText 139 = .ok (.if_icmp .ge 30, 3) := dk_162 0 30 (dk_at dksX7_fiddlerText_6 0 rfl rfl)
theorem dX7_fiddlerText_142 : decode cX7_fiddlerText 142 = .ok (.aload_n 0, 1) := dk_42 (dk_at dksX7_fiddlerText_6 3 rfl rfl)
theorem dX7_fiddlerText_143 : decode cX7_fiddlerText 143 = .ok (.getfield 7, 3) := dk_180 0 7 (dk_at dksX7_fiddlerText_6 4 rfl rfl)
theorem dX7_fiddlerText_146 : decode cX7_fiddlerText 146 = .ok (.iload_n 3, 1) := dk_29 (dk_at dksX7_fiddlerText_6 7 rfl rfl)
theorem dX7_fiddlerText_147 : decode cX7_fiddlerText 147 = .ok (.bipush 17, 2) := dk_16 17 (dk_at dksX7_fiddlerText_6 8 rfl rfl)
theorem dX7_fiddlerText_149 : decode cX7_fiddlerText 149 = .ok (.iload 4, 2) := dk_21 4 (dk_at dksX7_fiddlerText_6 10 rfl rfl)
theorem dX7_fiddlerText_151 : decode cX7_fiddlerText 151 = .ok (.iadd, 1) := dk_96 (dk_at dksX7_fiddlerText_6 12 rfl rfl)
theorem dX7_fiddlerText_152 : decode cX7_fiddlerText 152 = .ok (.invokestatic 65, 3) := dk_184 0 65 (dk_at dksX7_fiddlerText_6 13 rfl rfl)
theorem dX7_fiddlerText_155 : decode cX7_fiddlerText 155 = .ok (.aload_n 0, 1) := dk_42 (dk_at dksX7_fiddlerText_6 16 rfl rfl)
theorem dX7_fiddlerText_156 : decode cX7_fiddlerText 156 = .ok (.iconst 0, 1) := dk_3 (dk_at dksX7_fiddlerText_6 17 rfl rfl)
theorem dX7_fiddlerText_157 : decode cX7_fiddlerText 157 = .ok (.bipush 9, 2) := dk_16 9 (dk_at dksX7_fiddlerText_6 18 rfl rfl)
theorem dX7_fiddlerText_159 : decode cX7_fiddlerText 159 = .ok (.invokevirtual 208, 3) := dk_182 0 208 (dk_at dksX7_fiddlerText_6 20 rfl rfl)
theorem dX7_fiddlerText_162 : decode cX7_fiddlerText 162 = .ok (.iastore, 1) := dk_79 (dk_at dksX7_fiddlerText_6 23 rfl rfl)
theorem dX7_fiddlerText_163 : decode cX7_fiddlerText 163 = .ok (.iinc 4 1, 3) := dk_132 4 1 (dk_at dksX7_fiddlerText_7 0 rfl rfl)
theorem dX7_fiddlerText_166 : decode cX7_fiddlerText 166 = .ok (.goto (-30), 3) := dk_167 255 226 (dk_at dksX7_fiddlerText_7 3 rfl rfl)
theorem dX7_fiddlerText_169 : decode cX7_fiddlerText 169 = .ok (.return_, 1) := dk_177 (dk_at dksX7_fiddlerText_7 6 rfl rfl)
abbrev iX7_fiddlerText : xM := (yX7_fiddlerText, cX7_fiddlerText, 5, none, [])
theorem mX7_fiddlerText : xOkM iX7_fiddlerText := ⟨by decide +kernel, by decide, q3720, q175⟩
abbrev cX7_isNameHere : ByteArray := prog_15_method_54_code
def yX7_isNameHere : MethodName := ⟨RX7, "isNameHere", "()Z"⟩
def dkwX7_isNameHere_1 : List UInt8 := [167, 0, 4, 3, 172]
abbrev dktX7_isNameHere_1 : List UInt8 := dkwX7_isNameHere_1 ++ []
def dkwX7_isNameHere_0 : List UInt8 := [42, 180, 0, 167, 4, 160, 0, 21, 42, 180, 0, 159, 42, 180, 0, 164, 100, 16, 6, 163, 0, 7, 4]
abbrev dktX7_isNameHere_0 : List UInt8 := dkwX7_isNameHere_0 ++ dktX7_isNameHere_1
theorem dksX7_isNameHere_0 : cX7_isNameHere.data.toList.drop 0 = dktX7_isNameHere_0 := by decide +kernel
theorem dksX7_isNameHere_1 : cX7_isNameHere.data.toList.drop 23 = dktX7_isNameHere_1 := dk_seg dksX7_isNameHere_0 23 rfl rfl
theorem dX7_isNameHere_0 : decode cX7_isNameHere 0 = .ok (.aload_n 0, 1) := dk_42 (dk_at dksX7_isNameHere_0 0 rfl rfl)
theorem dX7_isNameHere_1 : decode cX7_isNameHere 1 = .ok (.getfield 167, 3) := dk_180 0 167 (dk_at dksX7_isNameHere_0 1 rfl rfl)
theorem dX7_isNameHere_4 : decode cX7_isNameHere 4 = .ok (.iconst 1, 1) := dk_4 (dk_at dksX7_isNameHere_0 4 rfl rfl)
theorem dX7_isNameHere_5 : decode cX7_isNameHere 5 = .ok (.if_icmp .ne 21, 3) := dk_160 0 21 (dk_at dksX7_isNameHere_0 5 rfl rfl)
theorem dX7_isNameHere_8 : decode cX7_isNameHere 8 = .ok (.aload_n 0, 1) := dk_42 (dk_at dksX7_isNameHere_0 8 rfl rfl)
theorem dX7_isNameHere_9 : decode cX7_isNameHere 9 = .ok (.getfield 159, 3) := dk_180 0 159 (dk_at dksX7_isNameHere_0 9 rfl rfl)
theorem dX7_isNameHere_12 : decode cX7_isNameHere 12 = .ok (.aload_n 0, 1) := dk_42 (dk_at dksX7_isNameHere_0 12 rfl rfl)
theorem dX7_isNameHere_13 : decode cX7_isNameHere 13 = .ok (.getfield 164, 3) := dk_180 0 164 (dk_at dksX7_isNameHere_0 13 rfl rfl)
theorem dX7_isNameHere_16 : decode cX7_isNameHere 16 = .ok (.isub, 1) := dk_100 (dk_at dksX7_isNameHere_0 16 rfl rfl)
theorem dX7_isNameHere_17 : decode cX7_isNameHere 17 = .ok (.bipush 6, 2) := dk_16 6 (dk_at dksX7_isNameHere_0 17 rfl rfl)
theorem dX7_isNameHere_19 : decode cX7_isNameHere 19 = .ok (.if_icmp .gt 7, 3) := dk_163 0 7 (dk_at dksX7_isNameHere_0 19 rfl rfl)
theorem dX7_isNameHere_22 : decode cX7_isNameHere 22 = .ok (.iconst 1, 1) := dk_4 (dk_at dksX7_isNameHere_0 22 rfl rfl)
theorem dX7_isNameHere_23 : decode cX7_isNameHere 23 = .ok (.goto 4, 3) := dk_167 0 4 (dk_at dksX7_isNameHere_1 0 rfl rfl)
theorem dX7_isNameHere_26 : decode cX7_isNameHere 26 = .ok (.iconst 0, 1) := dk_3 (dk_at dksX7_isNameHere_1 3 rfl rfl)
theorem dX7_isNameHere_27 : decode cX7_isNameHere 27 = .ok (.ireturn, 1) := dk_172 (dk_at dksX7_isNameHere_1 4 rfl rfl)
abbrev iX7_isNameHere : xM := (yX7_isNameHere, cX7_isNameHere, 1, (some .boolean), [])
theorem mX7_isNameHere : xOkM iX7_isNameHere := ⟨by decide +kernel, by decide, q3724, q175⟩
abbrev cX7_isGood : ByteArray := prog_15_method_46_code
def yX7_isGood : MethodName := ⟨RX7, "isGood", "()Z"⟩
def dkwX7_isGood_0 : List UInt8 := [42, 180, 0, 189, 154, 0, 7, 4, 167, 0, 4, 3, 172]
abbrev dktX7_isGood_0 : List UInt8 := dkwX7_isGood_0 ++ []
theorem dksX7_isGood_0 : cX7_isGood.data.toList.drop 0 = dktX7_isGood_0 := by decide +kernel
theorem dX7_isGood_0 : decode cX7_isGood 0 = .ok (.aload_n 0, 1) := dk_42 (dk_at dksX7_isGood_0 0 rfl rfl)
theorem dX7_isGood_1 : decode cX7_isGood 1 = .ok (.getfield 189, 3) := dk_180 0 189 (dk_at dksX7_isGood_0 1 rfl rfl)
theorem dX7_isGood_4 : decode cX7_isGood 4 = .ok (.ifCond .ne 7, 3) := dk_154 0 7 (dk_at dksX7_isGood_0 4 rfl rfl)
theorem dX7_isGood_7 : decode cX7_isGood 7 = .ok (.iconst 1, 1) := dk_4 (dk_at dksX7_isGood_0 7 rfl rfl)
theorem dX7_isGood_8 : decode cX7_isGood 8 = .ok (.goto 4, 3) := dk_167 0 4 (dk_at dksX7_isGood_0 8 rfl rfl)
theorem dX7_isGood_11 : decode cX7_isGood 11 = .ok (.iconst 0, 1) := dk_3 (dk_at dksX7_isGood_0 11 rfl rfl)
theorem dX7_isGood_12 : decode cX7_isGood 12 = .ok (.ireturn, 1) := dk_172 (dk_at dksX7_isGood_0 12 rfl rfl)
abbrev iX7_isGood : xM := (yX7_isGood, cX7_isGood, 1, (some .boolean), [])
theorem mX7_isGood : xOkM iX7_isGood := ⟨by decide +kernel, by decide, q3728, q175⟩
abbrev cX7_namedFiddler : ByteArray := prog_15_method_14_code
def yX7_namedFiddler : MethodName := ⟨RX7, "namedFiddler", "(I)I"⟩
def dkwX7_namedFiddler_1 : List UInt8 := [172, 132, 2, 1, 167, 255, 230, 2, 172]
abbrev dktX7_namedFiddler_1 : List UInt8 := dkwX7_namedFiddler_1 ++ []
def dkwX7_namedFiddler_0 : List UInt8 := [3, 61, 28, 42, 180, 0, 7, 16, 13, 46, 162, 0, 21, 42, 28, 3, 182, 0, 75, 27, 160, 0, 5, 28]
abbrev dktX7_namedFiddler_0 : List UInt8 := dkwX7_namedFiddler_0 ++ dktX7_namedFiddler_1
theorem dksX7_namedFiddler_0 : cX7_namedFiddler.data.toList.drop 0 = dktX7_namedFiddler_0 := by decide +kernel
theorem dksX7_namedFiddler_1 : cX7_namedFiddler.data.toList.drop 24 = dktX7_namedFiddler_1 := dk_seg dksX7_namedFiddler_0 24 rfl rfl
theorem dX7_namedFiddler_0 : decode cX7_namedFiddler 0 = .ok (.iconst 0, 1) := dk_3 (dk_at dksX7_namedFiddler_0 0 rfl rfl)
theorem dX7_namedFiddler_1 : decode cX7_namedFiddler 1 = .ok (.istore_n 2, 1) := dk_61 (dk_at dksX7_namedFiddler_0 1 rfl rfl)
theorem dX7_namedFiddler_2 : decode cX7_namedFiddler 2 = .ok (.iload_n 2, 1) := dk_28 (dk_at dksX7_namedFiddler_0 2 rfl rfl)
theorem dX7_namedFiddler_3 : decode cX7_namedFiddler 3 = .ok (.aload_n 0, 1) := dk_42 (dk_at dksX7_namedFiddler_0 3 rfl rfl)
theorem dX7_namedFiddler_4 : decode cX7_namedFiddler 4 = .ok (.getfield 7, 3) := dk_180 0 7 (dk_at dksX7_namedFiddler_0 4 rfl rfl)
theorem dX7_namedFiddler_7 : decode cX7_namedFiddler 7 = .ok (.bipush 13, 2) := dk_16 13 (dk_at dksX7_namedFiddler_0 7 rfl rfl)
theorem dX7_namedFiddler_9 : decode cX7_namedFiddler 9 = .ok (.iaload, 1) := dk_46 (dk_at dksX7_namedFiddler_0 9 rfl rfl)
theorem dX7_namedFiddler_10 : decode cX7_namedFiddler 10 = .ok (.if_icmp .ge 21, 3) := dk_162 0 21 (dk_at dksX7_namedFiddler_0 10 rfl rfl)
theorem dX7_namedFiddler_13 : decode cX7_namedFiddler 13 = .ok (.aload_n 0, 1) := dk_42 (dk_at dksX7_namedFiddler_0 13 rfl rfl)
theorem dX7_namedFiddler_14 : decode cX7_namedFiddler 14 = .ok (.iload_n 2, 1) := dk_28 (dk_at dksX7_namedFiddler_0 14 rfl rfl)
theorem dX7_namedFiddler_15 : decode cX7_namedFiddler 15 = .ok (.iconst 0, 1) := dk_3 (dk_at dksX7_namedFiddler_0 15 rfl rfl)
theorem dX7_namedFiddler_16 : decode cX7_namedFiddler 16 = .ok (.invokevirtual 75, 3) := dk_182 0 75 (dk_at dksX7_namedFiddler_0 16 rfl rfl)
theorem dX7_namedFiddler_19 : decode cX7_namedFiddler 19 = .ok (.iload_n 1, 1) := dk_27 (dk_at dksX7_namedFiddler_0 19 rfl rfl)
theorem dX7_namedFiddler_20 : decode cX7_namedFiddler 20 = .ok (.if_icmp .ne 5, 3) := dk_160 0 5 (dk_at dksX7_namedFiddler_0 20 rfl rfl)
theorem dX7_namedFiddler_23 : decode cX7_namedFiddler 23 = .ok (.iload_n 2, 1) := dk_28 (dk_at dksX7_namedFiddler_0 23 rfl rfl)
theorem dX7_namedFiddler_24 : decode cX7_namedFiddler 24 = .ok (.ireturn, 1) := dk_172 (dk_at dksX7_namedFiddler_1 0 rfl rfl)
theorem dX7_namedFiddler_25 : decode cX7_namedFiddler 25 = .ok (.iinc 2 1, 3) := dk_132 2 1 (dk_at dksX7_namedFiddler_1 1 rfl rfl)
theorem dX7_namedFiddler_28 : decode cX7_namedFiddler 28 = .ok (.goto (-26), 3) := dk_167 255 230 (dk_at dksX7_namedFiddler_1 4 rfl rfl)
theorem dX7_namedFiddler_31 : decode cX7_namedFiddler 31 = .ok (.iconst (-1), 1) := dk_2 (dk_at dksX7_namedFiddler_1 7 rfl rfl)
theorem dX7_namedFiddler_32 : decode cX7_namedFiddler 32 = .ok (.ireturn, 1) := dk_172 (dk_at dksX7_namedFiddler_1 8 rfl rfl)
abbrev iX7_namedFiddler : xM := (yX7_namedFiddler, cX7_namedFiddler, 3, (some .int), [])
theorem mX7_namedFiddler : xOkM iX7_namedFiddler := ⟨by decide +kernel, by decide, q3732, q175⟩
abbrev cX7_has : ByteArray := prog_15_method_10_code
def yX7_has : MethodName := ⟨RX7, "has", "(II)I"⟩
def dkwX7_has_0 : List UInt8 := [42, 180, 0, 7, 27, 28, 184, 0, 65, 46, 172]
abbrev dktX7_has_0 : List UInt8 := dkwX7_has_0 ++ []
theorem dksX7_has_0 : cX7_has.data.toList.drop 0 = dktX7_has_0 := by decide +kernel
theorem dX7_has_0 : decode cX7_has 0 = .ok (.aload_n 0, 1) := dk_42 (dk_at dksX7_has_0 0 rfl rfl)
theorem dX7_has_1 : decode cX7_has 1 = .ok (.getfield 7, 3) := dk_180 0 7 (dk_at dksX7_has_0 1 rfl rfl)
theorem dX7_has_4 : decode cX7_has 4 = .ok (.iload_n 1, 1) := dk_27 (dk_at dksX7_has_0 4 rfl rfl)
theorem dX7_has_5 : decode cX7_has 5 = .ok (.iload_n 2, 1) := dk_28 (dk_at dksX7_has_0 5 rfl rfl)
theorem dX7_has_6 : decode cX7_has 6 = .ok (.invokestatic 65, 3) := dk_184 0 65 (dk_at dksX7_has_0 6 rfl rfl)
theorem dX7_has_9 : decode cX7_has 9 = .ok (.iaload, 1) := dk_46 (dk_at dksX7_has_0 9 rfl rfl)
theorem dX7_has_10 : decode cX7_has 10 = .ok (.ireturn, 1) := dk_172 (dk_at dksX7_has_0 10 rfl rfl)
abbrev iX7_has : xM := (yX7_has, cX7_has, 3, (some .int), [])
theorem mX7_has : xOkM iX7_has := ⟨by decide +kernel, by decide, q3736, q175⟩
abbrev cX7_centsText : ByteArray := prog_15_method_55_code
def yX7_centsText : MethodName := ⟨RX7, "centsText", "(II)I"⟩
def dkwX7_centsText_1 : List UInt8 := [153, 0, 9, 21, 4, 116, 167, 0, 5, 21, 4, 172]
abbrev dktX7_centsText_1 : List UInt8 := dkwX7_centsText_1 ++ []
def dkwX7_centsText_0 : List UInt8 := [42, 16, 45, 182, 0, 198, 62, 29, 153, 0, 7, 42, 182, 0, 205, 42, 27, 28, 182, 0, 208, 54, 4, 29]
abbrev dktX7_centsText_0 : List UInt8 := dkwX7_centsText_0 ++ dktX7_centsText_1
theorem dksX7_centsText_0 : cX7_centsText.data.toList.drop 0 = dktX7_centsText_0 := by decide +kernel
theorem dksX7_centsText_1 : cX7_centsText.data.toList.drop 24 = dktX7_centsText_1 := dk_seg dksX7_centsText_0 24 rfl rfl
theorem dX7_centsText_0 : decode cX7_centsText 0 = .ok (.aload_n 0, 1) := dk_42 (dk_at dksX7_centsText_0 0 rfl rfl)
theorem dX7_centsText_1 : decode cX7_centsText 1 = .ok (.bipush 45, 2) := dk_16 45 (dk_at dksX7_centsText_0 1 rfl rfl)
theorem dX7_centsText_3 : decode cX7_centsText 3 = .ok (.invokevirtual 198, 3) := dk_182 0 198 (dk_at dksX7_centsText_0 3 rfl rfl)
theorem dX7_centsText_6 : decode cX7_centsText 6 = .ok (.istore_n 3, 1) := dk_62 (dk_at dksX7_centsText_0 6 rfl rfl)
theorem dX7_centsText_7 : decode cX7_centsText 7 = .ok (.iload_n 3, 1) := dk_29 (dk_at dksX7_centsText_0 7 rfl rfl)
theorem dX7_centsText_8 : decode cX7_centsText 8 = .ok (.ifCond .eq 7, 3) := dk_153 0 7 (dk_at dksX7_centsText_0 8 rfl rfl)
theorem dX7_centsText_11 : decode cX7_centsText 11 = .ok (.aload_n 0, 1) := dk_42 (dk_at dksX7_centsText_0 11 rfl rfl)
theorem dX7_centsText_12 : decode cX7_centsText 12 = .ok (.invokevirtual 205, 3) := dk_182 0 205 (dk_at dksX7_centsText_0 12 rfl rfl)
theorem dX7_centsText_15 : decode cX7_centsText 15 = .ok (.aload_n 0, 1) := dk_42 (dk_at dksX7_centsText_0 15 rfl rfl)
theorem dX7_centsText_16 : decode cX7_centsText 16 = .ok (.iload_n 1, 1) := dk_27 (dk_at dksX7_centsText_0 16 rfl rfl)
theorem dX7_centsText_17 : decode cX7_centsText 17 = .ok (.iload_n 2, 1) := dk_28 (dk_at dksX7_centsText_0 17 rfl rfl)
theorem dX7_centsText_18 : decode cX7_centsText 18 = .ok (.invokevirtual 208, 3) := dk_182 0 208 (dk_at dksX7_centsText_0 18 rfl rfl)
theorem dX7_centsText_21 : decode cX7_centsText 21 = .ok (.istore 4, 2) := dk_54 4 (dk_at dksX7_centsText_0 21 rfl rfl)
theorem dX7_centsText_23 : decode cX7_centsText 23 = .ok (.iload_n 3, 1) := dk_29 (dk_at dksX7_centsText_0 23 rfl rfl)
theorem dX7_centsText_24 : decode cX7_centsText 24 = .ok (.ifCond .eq 9, 3) := dk_153 0 9 (dk_at dksX7_centsText_1 0 rfl rfl)
theorem dX7_centsText_27 : decode cX7_centsText 27 = .ok (.iload 4, 2) := dk_21 4 (dk_at dksX7_centsText_1 3 rfl rfl)
theorem dX7_centsText_29 : decode cX7_centsText 29 = .ok (.ineg, 1) := dk_116 (dk_at dksX7_centsText_1 5 rfl rfl)
theorem dX7_centsText_30 : decode cX7_centsText 30 = .ok (.goto 5, 3) := dk_167 0 5 (dk_at dksX7_centsText_1 6 rfl rfl)
theorem dX7_centsText_33 : decode cX7_centsText 33 = .ok (.iload 4, 2) := dk_21 4 (dk_at dksX7_centsText_1 9 rfl rfl)
theorem dX7_centsText_35 : decode cX7_centsText 35 = .ok (.ireturn, 1) := dk_172 (dk_at dksX7_centsText_1 11 rfl rfl)
abbrev iX7_centsText : xM := (yX7_centsText, cX7_centsText, 5, (some .int), [])
theorem mX7_centsText : xOkM iX7_centsText := ⟨by decide +kernel, by decide, q3740, q175⟩
abbrev cX7_tellsError : ByteArray := prog_15_method_59_code
def yX7_tellsError : MethodName := ⟨RX7, "tellsError", "()V"⟩
def dkwX7_tellsError_1 : List UInt8 := [181, 0, 48, 177]
abbrev dktX7_tellsError_1 : List UInt8 := dkwX7_tellsError_1 ++ []
def dkwX7_tellsError_0 : List UInt8 := [42, 42, 180, 0, 189, 181, 0, 240, 42, 42, 180, 0, 189, 154, 0, 7, 2, 167, 0, 7, 42, 180, 0, 192]
abbrev dktX7_tellsError_0 : List UInt8 := dkwX7_tellsError_0 ++ dktX7_tellsError_1
theorem dksX7_tellsError_0 : cX7_tellsError.data.toList.drop 0 = dktX7_tellsError_0 := by decide +kernel
theorem dksX7_tellsError_1 : cX7_tellsError.data.toList.drop 24 = dktX7_tellsError_1 := dk_seg dksX7_tellsError_0 24 rfl rfl
theorem dX7_tellsError_0 : decode cX7_tellsError 0 = .ok (.aload_n 0, 1) := dk_42 (dk_at dksX7_tellsError_0 0 rfl rfl)
theorem dX7_tellsError_1 : decode cX7_tellsError 1 = .ok (.aload_n 0, 1) := dk_42 (dk_at dksX7_tellsError_0 1 rfl rfl)
theorem dX7_tellsError_2 : decode cX7_tellsError 2 = .ok (.getfield 189, 3) := dk_180 0 189 (dk_at dksX7_tellsError_0 2 rfl rfl)
theorem dX7_tellsError_5 : decode cX7_tellsError 5 = .ok (.putfield 240, 3) := dk_181 0 240 (dk_at dksX7_tellsError_0 5 rfl rfl)
theorem dX7_tellsError_8 : decode cX7_tellsError 8 = .ok (.aload_n 0, 1) := dk_42 (dk_at dksX7_tellsError_0 8 rfl rfl)
theorem dX7_tellsError_9 : decode cX7_tellsError 9 = .ok (.aload_n 0, 1) := dk_42 (dk_at dksX7_tellsError_0 9 rfl rfl)
theorem dX7_tellsError_10 : decode cX7_tellsError 10 = .ok (.getfield 189, 3) := dk_180 0 189 (dk_at dksX7_tellsError_0 10 rfl rfl)
theorem dX7_tellsError_13 : decode cX7_tellsError 13 = .ok (.ifCond .ne 7, 3) := dk_154 0 7 (dk_at dksX7_tellsError_0 13 rfl rfl)
theorem dX7_tellsError_16 : decode cX7_tellsError 16 = .ok (.iconst (-1), 1) := dk_2 (dk_at dksX7_tellsError_0 16 rfl rfl)
theorem dX7_tellsError_17 : decode cX7_tellsError 17 = .ok (.goto 7, 3) := dk_167 0 7 (dk_at dksX7_tellsError_0 17 rfl rfl)
theorem dX7_tellsError_20 : decode cX7_tellsError 20 = .ok (.aload_n 0, 1) := dk_42 (dk_at dksX7_tellsError_0 20 rfl rfl)
theorem dX7_tellsError_21 : decode cX7_tellsError 21 = .ok (.getfield 192, 3) := dk_180 0 192 (dk_at dksX7_tellsError_0 21 rfl rfl)
theorem dX7_tellsError_24 : decode cX7_tellsError 24 = .ok (.putfield 48, 3) := dk_181 0 48 (dk_at dksX7_tellsError_1 0 rfl rfl)
theorem dX7_tellsError_27 : decode cX7_tellsError 27 = .ok (.return_, 1) := dk_177 (dk_at dksX7_tellsError_1 3 rfl rfl)
abbrev iX7_tellsError : xM := (yX7_tellsError, cX7_tellsError, 1, none, [])
theorem mX7_tellsError : xOkM iX7_tellsError := ⟨by decide +kernel, by decide, q3745, q175⟩
abbrev cX7_runScript : ByteArray := prog_15_method_75_code
def yX7_runScript : MethodName := ⟨RX7, "runScript", "()I"⟩
def dkwX7_runScript_1 : List UInt8 := [153, 0, 5, 2, 172, 42, 182, 1, 124, 42, 4, 182, 1, 121, 42, 180, 1, 25, 172]
abbrev dktX7_runScript_1 : List UInt8 := dkwX7_runScript_1 ++ []
def dkwX7_runScript_0 : List UInt8 := [42, 3, 181, 0, 72, 42, 182, 0, 243, 42, 3, 182, 1, 121, 42, 182, 1, 0, 42, 180, 0, 189]
abbrev dktX7_runScript_0 : List UInt8 := dkwX7_runScript_0 ++ dktX7_runScript_1
theorem dksX7_runScript_0 : cX7_runScript.data.toList.drop 0 = dktX7_runScript_0 := by decide +kernel
theorem dksX7_runScript_1 : cX7_runScript.data.toList.drop 22 = dktX7_runScript_1 := dk_seg dksX7_runScript_0 22 rfl rfl
theorem dX7_runScript_0 : decode cX7_runScript 0 = .ok (.aload_n 0, 1) := dk_42 (dk_at dksX7_runScript_0 0 rfl rfl)
theorem dX7_runScript_1 : decode cX7_runScript 1 = .ok (.iconst 0, 1) := dk_3 (dk_at dksX7_runScript_0 1 rfl rfl)
theorem dX7_runScript_2 : decode cX7_runScript 2 = .ok (.putfield 72, 3) := dk_181 0 72 (dk_at dksX7_runScript_0 2 rfl rfl)
theorem dX7_runScript_5 : decode cX7_runScript 5 = .ok (.aload_n 0, 1) := dk_42 (dk_at dksX7_runScript_0 5 rfl rfl)
theorem dX7_runScript_6 : decode cX7_runScript 6 = .ok (.invokevirtual 243, 3) := dk_182 0 243 (dk_at dksX7_runScript_0 6 rfl rfl)
theorem dX7_runScript_9 : decode cX7_runScript 9 = .ok (.aload_n 0, 1) := dk_42 (dk_at dksX7_runScript_0 9 rfl rfl)
theorem dX7_runScript_10 : decode cX7_runScript 10 = .ok (.iconst 0, 1) := dk_3 (dk_at dksX7_runScript_0 10 rfl rfl)
theorem dX7_runScript_11 : decode cX7_runScript 11 = .ok (.invokevirtual 377, 3) := dk_182 1 121 (dk_at dksX7_runScript_0 11 rfl rfl)
theorem dX7_runScript_14 : decode cX7_runScript 14 = .ok (.aload_n 0, 1) := dk_42 (dk_at dksX7_runScript_0 14 rfl rfl)
theorem dX7_runScript_15 : decode cX7_runScript 15 = .ok (.invokevirtual 256, 3) := dk_182 1 0 (dk_at dksX7_runScript_0 15 rfl rfl)
theorem dX7_runScript_18 : decode cX7_runScript 18 = .ok (.aload_n 0, 1) := dk_42 (dk_at dksX7_runScript_0 18 rfl rfl)
theorem dX7_runScript_19 : decode cX7_runScript 19 = .ok (.getfield 189, 3) := dk_180 0 189 (dk_at dksX7_runScript_0 19 rfl rfl)
theorem dX7_runScript_22 : decode cX7_runScript 22 = .ok (.ifCond .eq 5, 3) := dk_153 0 5 (dk_at dksX7_runScript_1 0 rfl rfl)
theorem dX7_runScript_25 : decode cX7_runScript 25 = .ok (.iconst (-1), 1) := dk_2 (dk_at dksX7_runScript_1 3 rfl rfl)
theorem dX7_runScript_26 : decode cX7_runScript 26 = .ok (.ireturn, 1) := dk_172 (dk_at dksX7_runScript_1 4 rfl rfl)
theorem dX7_runScript_27 : decode cX7_runScript 27 = .ok (.aload_n 0, 1) := dk_42 (dk_at dksX7_runScript_1 5 rfl rfl)
theorem dX7_runScript_28 : decode cX7_runScript 28 = .ok (.invokevirtual 380, 3) := dk_182 1 124 (dk_at dksX7_runScript_1 6 rfl rfl)
theorem dX7_runScript_31 : decode cX7_runScript 31 = .ok (.aload_n 0, 1) := dk_42 (dk_at dksX7_runScript_1 9 rfl rfl)
theorem dX7_runScript_32 : decode cX7_runScript 32 = .ok (.iconst 1, 1) := dk_4 (dk_at dksX7_runScript_1 10 rfl rfl)
theorem dX7_runScript_33 : decode cX7_runScript 33 = .ok (.invokevirtual 377, 3) := dk_182 1 121 (dk_at dksX7_runScript_1 11 rfl rfl)
theorem dX7_runScript_36 : decode cX7_runScript 36 = .ok (.aload_n 0, 1) := dk_42 (dk_at dksX7_runScript_1 14 rfl rfl)
theorem dX7_runScript_37 : decode cX7_runScript 37 = .ok (.getfield 281, 3) := dk_180 1 25 (dk_at dksX7_runScript_1 15 rfl rfl)
theorem dX7_runScript_40 : decode cX7_runScript 40 = .ok (.ireturn, 1) := dk_172 (dk_at dksX7_runScript_1 18 rfl rfl)
abbrev iX7_runScript : xM := (yX7_runScript, cX7_runScript, 1, (some .int), [])
theorem mX7_runScript : xOkM iX7_runScript := ⟨by decide +kernel, by decide, q3749, q175⟩
abbrev cX7_goesThrough : ByteArray := prog_15_method_74_code
def yX7_goesThrough : MethodName := ⟨RX7, "goesThrough", "(Z)V"⟩
def dkwX7_goesThrough_4 : List UInt8 := [167, 0, 4, 3, 4, 182, 0, 201, 177]
abbrev dktX7_goesThrough_4 : List UInt8 := dkwX7_goesThrough_4 ++ []
def dkwX7_goesThrough_3 : List UInt8 := [182, 1, 118, 167, 255, 215, 42, 42, 180, 1, 22, 154, 0, 10, 42, 180, 1, 92, 154, 0, 7, 4]
abbrev dktX7_goesThrough_3 : List UInt8 := dkwX7_goesThrough_3 ++ dktX7_goesThrough_4
def dkwX7_goesThrough_2 : List UInt8 := [180, 0, 167, 153, 0, 26, 42, 16, 41, 182, 0, 198, 153, 0, 10, 42, 182, 1, 115, 167, 255, 222, 42]
abbrev dktX7_goesThrough_2 : List UInt8 := dkwX7_goesThrough_2 ++ dktX7_goesThrough_3
def dkwX7_goesThrough_1 : List UInt8 := [181, 1, 25, 42, 182, 0, 250, 42, 180, 0, 189, 154, 0, 40, 42, 180, 1, 22, 154, 0, 33, 42]
abbrev dktX7_goesThrough_1 : List UInt8 := dkwX7_goesThrough_1 ++ dktX7_goesThrough_2
def dkwX7_goesThrough_0 : List UInt8 := [42, 27, 181, 1, 18, 42, 3, 181, 1, 22, 42, 3, 181, 1, 102, 42, 3, 181, 1, 92, 42, 3]
abbrev dktX7_goesThrough_0 : List UInt8 := dkwX7_goesThrough_0 ++ dktX7_goesThrough_1
theorem dksX7_goesThrough_0 : cX7_goesThrough.data.toList.drop 0 = dktX7_goesThrough_0 := by decide +kernel
theorem dksX7_goesThrough_1 : cX7_goesThrough.data.toList.drop 22 = dktX7_goesThrough_1 := dk_seg dksX7_goesThrough_0 22 rfl rfl
theorem dksX7_goesThrough_2 : cX7_goesThrough.data.toList.drop 44 = dktX7_goesThrough_2 := dk_seg dksX7_goesThrough_1 22 rfl rfl
theorem dksX7_goesThrough_3 : cX7_goesThrough.data.toList.drop 67 = dktX7_goesThrough_3 := dk_seg dksX7_goesThrough_2 23 rfl rfl
theorem dksX7_goesThrough_4 : cX7_goesThrough.data.toList.drop 89 = dktX7_goesThrough_4 := dk_seg dksX7_goesThrough_3 22 rfl rfl
theorem dX7_goesThrough_0 : decode cX7_goesThrough 0 = .ok (.aload_n 0, 1) := dk_42 (dk_at dksX7_goesThrough_0 0 rfl rfl)
theorem dX7_goesThrough_1 : decode cX7_goesThrough 1 = .ok (.iload_n 1, 1) := dk_27 (dk_at dksX7_goesThrough_0 1 rfl rfl)
theorem dX7_goesThrough_2 : decode cX7_goesThrough 2 = .ok (.putfield 274, 3) := dk_181 1 18 (dk_at dksX7_goesThrough_0 2 rfl rfl)
theorem dX7_goesThrough_5 : decode cX7_goesThrough 5 = .ok (.aload_n 0, 1) := dk_42 (dk_at dksX7_goesThrough_0 5 rfl rfl)
theorem dX7_goesThrough_6 : decode cX7_goesThrough 6 = .ok (.iconst 0, 1) := dk_3 (dk_at dksX7_goesThrough_0 6 rfl rfl)
theorem dX7_goesThrough_7 : decode cX7_goesThrough 7 = .ok (.putfield 278, 3) := dk_181 1 22 (dk_at dksX7_goesThrough_0 7 rfl rfl)
theorem dX7_goesThrough_10 : decode cX7_goesThrough 10 = .ok (.aload_n 0, 1) := dk_42 (dk_at dksX7_goesThrough_0 10 rfl rfl)
theorem dX7_goesThrough_11 : decode cX7_goesThrough 11 = .ok (.iconst 0, 1) := dk_3 (dk_at dksX7_goesThrough_0 11 rfl rfl)
theorem dX7_goesThrough_12 : decode cX7_goesThrough 12 = .ok (.putfield 358, 3) := dk_181 1 102 (dk_at dksX7_goesThrough_0 12 rfl rfl)
theorem dX7_goesThrough_15 : decode cX7_goesThrough 15 = .ok (.aload_n 0, 1) := dk_42 (dk_at dksX7_goesThrough_0 15 rfl rfl)
theorem dX7_goesThrough_16 : decode cX7_goesThrough 16 = .ok (.iconst 0, 1) := dk_3 (dk_at dksX7_goesThrough_0 16 rfl rfl)
theorem dX7_goesThrough_17 : decode cX7_goesThrough 17 = .ok (.putfield 348, 3) := dk_181 1 92 (dk_at dksX7_goesThrough_0 17 rfl rfl)
theorem dX7_goesThrough_20 : decode cX7_goesThrough 20 = .ok (.aload_n 0, 1) := dk_42 (dk_at dksX7_goesThrough_0 20 rfl rfl)
theorem dX7_goesThrough_21 : decode cX7_goesThrough 21 = .ok (.iconst 0, 1) := dk_3 (dk_at dksX7_goesThrough_0 21 rfl rfl)
theorem dX7_goesThrough_22 : decode cX7_goesThrough 22 = .ok (.putfield 281, 3) := dk_181 1 25 (dk_at dksX7_goesThrough_1 0 rfl rfl)
theorem dX7_goesThrough_25 : decode cX7_goesThrough 25 = .ok (.aload_n 0, 1) := dk_42 (dk_at dksX7_goesThrough_1 3 rfl rfl)
theorem dX7_goesThrough_26 : decode cX7_goesThrough 26 = .ok (.invokevirtual 250, 3) := dk_182 0 250 (dk_at dksX7_goesThrough_1 4 rfl rfl)
theorem dX7_goesThrough_29 : decode cX7_goesThrough 29 = .ok (.aload_n 0, 1) := dk_42 (dk_at dksX7_goesThrough_1 7 rfl rfl)
theorem dX7_goesThrough_30 : decode cX7_goesThrough 30 = .ok (.getfield 189, 3) := dk_180 0 189 (dk_at dksX7_goesThrough_1 8 rfl rfl)
theorem dX7_goesThrough_33 : decode cX7_goesThrough 33 = .ok (.ifCond .ne 40, 3) := dk_154 0 40 (dk_at dksX7_goesThrough_1 11 rfl rfl)
theorem dX7_goesThrough_36 : decode cX7_goesThrough 36 = .ok (.aload_n 0, 1) := dk_42 (dk_at dksX7_goesThrough_1 14 rfl rfl)
theorem dX7_goesThrough_37 : decode cX7_goesThrough 37 = .ok (.getfield 278, 3) := dk_180 1 22 (dk_at dksX7_goesThrough_1 15 rfl rfl)
theorem dX7_goesThrough_40 : decode cX7_goesThrough 40 = .ok (.ifCond .ne 33, 3) := dk_154 0 33 (dk_at dksX7_goesThrough_1 18 rfl rfl)
theorem dX7_goesThrough_43 : decode cX7_goesThrough 43 = .ok (.aload_n 0, 1) := dk_42 (dk_at dksX7_goesThrough_1 21 rfl rfl)
theorem dX7_goesThrough_44 : decode cX7_goesThrough 44 = .ok (.getfield 167, 3) := dk_180 0 167 (dk_at dksX7_goesThrough_2 0 rfl rfl)
theorem dX7_goesThrough_47 : decode cX7_goesThrough 47 = .ok (.ifCond .eq 26, 3) := dk_153 0 26 (dk_at dksX7_goesThrough_2 3 rfl rfl)
theorem dX7_goesThrough_50 : decode cX7_goesThrough 50 = .ok (.aload_n 0, 1) := dk_42 (dk_at dksX7_goesThrough_2 6 rfl rfl)
theorem dX7_goesThrough_51 : decode cX7_goesThrough 51 = .ok (.bipush 41, 2) := dk_16 41 (dk_at dksX7_goesThrough_2 7 rfl rfl)
theorem dX7_goesThrough_53 : decode cX7_goesThrough 53 = .ok (.invokevirtual 198, 3) := dk_182 0 198 (dk_at dksX7_goesThrough_2 9 rfl rfl)
theorem dX7_goesThrough_56 : decode cX7_goesThrough 56 = .ok (.ifCond .eq 10, 3) := dk_153 0 10 (dk_at dksX7_goesThrough_2 12 rfl rfl)
theorem dX7_goesThrough_59 : decode cX7_goesThrough 59 = .ok (.aload_n 0, 1) := dk_42 (dk_at dksX7_goesThrough_2 15 rfl rfl)
theorem dX7_goesThrough_60 : decode cX7_goesThrough 60 = .ok (.invokevirtual 371, 3) := dk_182 1 115 (dk_at dksX7_goesThrough_2 16 rfl rfl)
theorem dX7_goesThrough_63 : decode cX7_goesThrough 63 = .ok (.goto (-34), 3) := dk_167 255 222 (dk_at dksX7_goesThrough_2 19 rfl rfl)
theorem dX7_goesThrough_66 : decode cX7_goesThrough 66 = .ok (.aload_n 0, 1) := dk_42 (dk_at dksX7_goesThrough_2 22 rfl rfl)
theorem dX7_goesThrough_67 : decode cX7_goesThrough 67 = .ok (.invokevirtual 374, 3) := dk_182 1 118 (dk_at dksX7_goesThrough_3 0 rfl rfl)
theorem dX7_goesThrough_70 : decode cX7_goesThrough 70 = .ok (.goto (-41), 3) := dk_167 255 215 (dk_at dksX7_goesThrough_3 3 rfl rfl)
theorem dX7_goesThrough_73 : decode cX7_goesThrough 73 = .ok (.aload_n 0, 1) := dk_42 (dk_at dksX7_goesThrough_3 6 rfl rfl)
theorem dX7_goesThrough_74 : decode cX7_goesThrough 74 = .ok (.aload_n 0, 1) := dk_42 (dk_at dksX7_goesThrough_3 7 rfl rfl)
theorem dX7_goesThrough_75 : decode cX7_goesThrough 75 = .ok (.getfield 278, 3) := dk_180 1 22 (dk_at dksX7_goesThrough_3 8 rfl rfl)
theorem dX7_goesThrough_78 : decode cX7_goesThrough 78 = .ok (.ifCond .ne 10, 3) := dk_154 0 10 (dk_at dksX7_goesThrough_3 11 rfl rfl)
theorem dX7_goesThrough_81 : decode cX7_goesThrough 81 = .ok (.aload_n 0, 1) := dk_42 (dk_at dksX7_goesThrough_3 14 rfl rfl)
theorem dX7_goesThrough_82 : decode cX7_goesThrough 82 = .ok (.getfield 348, 3) := dk_180 1 92 (dk_at dksX7_goesThrough_3 15 rfl rfl)
theorem dX7_goesThrough_85 : decode cX7_goesThrough 85 = .ok (.ifCond .ne 7, 3) := dk_154 0 7 (dk_at dksX7_goesThrough_3 18 rfl rfl)
theorem dX7_goesThrough_88 : decode cX7_goesThrough 88 = .ok (.iconst 1, 1) := dk_4 (dk_at dksX7_goesThrough_3 21 rfl rfl)
theorem dX7_goesThrough_89 : decode cX7_goesThrough 89 = .ok (.goto 4, 3) := dk_167 0 4 (dk_at dksX7_goesThrough_4 0 rfl rfl)
theorem dX7_goesThrough_92 : decode cX7_goesThrough 92 = .ok (.iconst 0, 1) := dk_3 (dk_at dksX7_goesThrough_4 3 rfl rfl)
theorem dX7_goesThrough_93 : decode cX7_goesThrough 93 = .ok (.iconst 1, 1) := dk_4 (dk_at dksX7_goesThrough_4 4 rfl rfl)
theorem dX7_goesThrough_94 : decode cX7_goesThrough 94 = .ok (.invokevirtual 201, 3) := dk_182 0 201 (dk_at dksX7_goesThrough_4 5 rfl rfl)
theorem dX7_goesThrough_97 : decode cX7_goesThrough 97 = .ok (.return_, 1) := dk_177 (dk_at dksX7_goesThrough_4 8 rfl rfl)
abbrev iX7_goesThrough : xM := (yX7_goesThrough, cX7_goesThrough, 2, none, [])
theorem mX7_goesThrough : xOkM iX7_goesThrough := ⟨by decide +kernel, by decide, q3753, q175⟩
abbrev cX7_closes : ByteArray := prog_15_method_72_code
def yX7_closes : MethodName := ⟨RX7, "closes", "()V"⟩
def dkwX7_closes_4 : List UInt8 := [16, 59, 182, 0, 232, 177]
abbrev dktX7_closes_4 : List UInt8 := dkwX7_closes_4 ++ []
def dkwX7_closes_3 : List UInt8 := [46, 181, 0, 159, 42, 182, 0, 195, 177, 42, 89, 180, 1, 92, 4, 100, 181, 1, 92, 42, 182, 0, 205, 42]
abbrev dktX7_closes_3 : List UInt8 := dkwX7_closes_3 ++ dktX7_closes_4
def dkwX7_closes_2 : List UInt8 := [180, 0, 55, 42, 180, 1, 92, 4, 100, 46, 158, 0, 23, 42, 42, 180, 0, 52, 42, 180, 1, 92, 4, 100]
abbrev dktX7_closes_2 : List UInt8 := dkwX7_closes_2 ++ dktX7_closes_3
def dkwX7_closes_1 : List UInt8 := [177, 42, 180, 0, 55, 42, 180, 1, 92, 4, 100, 92, 46, 4, 100, 79, 42, 180, 1, 18, 153, 0, 37, 42]
abbrev dktX7_closes_1 : List UInt8 := dkwX7_closes_1 ++ dktX7_closes_2
def dkwX7_closes_0 : List UInt8 := [42, 42, 180, 1, 92, 158, 0, 7, 4, 167, 0, 4, 3, 4, 182, 0, 201, 42, 180, 0, 189, 153, 0, 4]
abbrev dktX7_closes_0 : List UInt8 := dkwX7_closes_0 ++ dktX7_closes_1
theorem dksX7_closes_0 : cX7_closes.data.toList.drop 0 = dktX7_closes_0 := by decide +kernel
theorem dksX7_closes_1 : cX7_closes.data.toList.drop 24 = dktX7_closes_1 := dk_seg dksX7_closes_0 24 rfl rfl
theorem dksX7_closes_2 : cX7_closes.data.toList.drop 48 = dktX7_closes_2 := dk_seg dksX7_closes_1 24 rfl rfl
theorem dksX7_closes_3 : cX7_closes.data.toList.drop 72 = dktX7_closes_3 := dk_seg dksX7_closes_2 24 rfl rfl
theorem dksX7_closes_4 : cX7_closes.data.toList.drop 96 = dktX7_closes_4 := dk_seg dksX7_closes_3 24 rfl rfl
theorem dX7_closes_0 : decode cX7_closes 0 = .ok (.aload_n 0, 1) := dk_42 (dk_at dksX7_closes_0 0 rfl rfl)
theorem dX7_closes_1 : decode cX7_closes 1 = .ok (.aload_n 0, 1) := dk_42 (dk_at dksX7_closes_0 1 rfl rfl)
theorem dX7_closes_2 : decode cX7_closes 2 = .ok (.getfield 348, 3) := dk_180 1 92 (dk_at dksX7_closes_0 2 rfl rfl)
theorem dX7_closes_5 : decode cX7_closes 5 = .ok (.ifCond .le 7, 3) := dk_158 0 7 (dk_at dksX7_closes_0 5 rfl rfl)
theorem dX7_closes_8 : decode cX7_closes 8 = .ok (.iconst 1, 1) := dk_4 (dk_at dksX7_closes_0 8 rfl rfl)
theorem dX7_closes_9 : decode cX7_closes 9 = .ok (.goto 4, 3) := dk_167 0 4 (dk_at dksX7_closes_0 9 rfl rfl)
theorem dX7_closes_12 : decode cX7_closes 12 = .ok (.iconst 0, 1) := dk_3 (dk_at dksX7_closes_0 12 rfl rfl)
theorem dX7_closes_13 : decode cX7_closes 13 = .ok (.iconst 1, 1) := dk_4 (dk_at dksX7_closes_0 13 rfl rfl)
theorem dX7_closes_14 : decode cX7_closes 14 = .ok (.invokevirtual 201, 3) := dk_182 0 201 (dk_at dksX7_closes_0 14 rfl rfl)
theorem dX7_closes_17 : decode cX7_closes 17 = .ok (.aload_n 0, 1) := dk_42 (dk_at dksX7_closes_0 17 rfl rfl)
theorem dX7_closes_18 : decode cX7_closes 18 = .ok (.getfield 189, 3) := dk_180 0 189 (dk_at dksX7_closes_0 18 rfl rfl)
theorem dX7_closes_21 : decode cX7_closes 21 = .ok (.ifCond .eq 4, 3) := dk_153 0 4 (dk_at dksX7_closes_0 21 rfl rfl)
theorem dX7_closes_24 : decode cX7_closes 24 = .ok (.return_, 1) := dk_177 (dk_at dksX7_closes_1 0 rfl rfl)
theorem dX7_closes_25 : decode cX7_closes 25 = .ok (.aload_n 0, 1) := dk_42 (dk_at dksX7_closes_1 1 rfl rfl)
theorem dX7_closes_26 : decode cX7_closes 26 = .ok (.getfield 55, 3) := dk_180 0 55 (dk_at dksX7_closes_1 2 rfl rfl)
theorem dX7_closes_29 : decode cX7_closes 29 = .ok (.aload_n 0, 1) := dk_42 (dk_at dksX7_closes_1 5 rfl rfl)
theorem dX7_closes_30 : decode cX7_closes 30 = .ok (.getfield 348, 3) := dk_180 1 92 (dk_at dksX7_closes_1 6 rfl rfl)
theorem dX7_closes_33 : decode cX7_closes 33 = .ok (.iconst 1, 1) := dk_4 (dk_at dksX7_closes_1 9 rfl rfl)
theorem dX7_closes_34 : decode cX7_closes 34 = .ok (.isub, 1) := dk_100 (dk_at dksX7_closes_1 10 rfl rfl)
theorem dX7_closes_35 : decode cX7_closes 35 = .ok (.dup2, 1) := dk_92 (dk_at dksX7_closes_1 11 rfl rfl)
theorem dX7_closes_36 : decode cX7_closes 36 = .ok (.iaload, 1) := dk_46 (dk_at dksX7_closes_1 12 rfl rfl)
theorem dX7_closes_37 : decode cX7_closes 37 = .ok (.iconst 1, 1) := dk_4 (dk_at dksX7_closes_1 13 rfl rfl)
theorem dX7_closes_38 : decode cX7_closes 38 = .ok (.isub, 1) := dk_100 (dk_at dksX7_closes_1 14 rfl rfl)
theorem dX7_closes_39 : decode cX7_closes 39 = .ok (.iastore, 1) := dk_79 (dk_at dksX7_closes_1 15 rfl rfl)
theorem dX7_closes_40 : decode cX7_closes 40 = .ok (.aload_n 0, 1) := dk_42 (dk_at dksX7_closes_1 16 rfl rfl)
theorem dX7_closes_41 : decode cX7_closes 41 = .ok (.getfield 274, 3) := dk_180 1 18 (dk_at dksX7_closes_1 17 rfl rfl)
theorem dX7_closes_44 : decode cX7_closes 44 = .ok (.ifCond .eq 37, 3) := dk_153 0 37 (dk_at dksX7_closes_1 20 rfl rfl)
theorem dX7_closes_47 : decode cX7_closes 47 = .ok (.aload_n 0, 1) := dk_42 (dk_at dksX7_closes_1 23 rfl rfl)
theorem dX7_closes_48 : decode cX7_closes 48 = .ok (.getfield 55, 3) := dk_180 0 55 (dk_at dksX7_closes_2 0 rfl rfl)
theorem dX7_closes_51 : decode cX7_closes 51 = .ok (.aload_n 0, 1) := dk_42 (dk_at dksX7_closes_2 3 rfl rfl)
theorem dX7_closes_52 : decode cX7_closes 52 = .ok (.getfield 348, 3) := dk_180 1 92 (dk_at dksX7_closes_2 4 rfl rfl)
theorem dX7_closes_55 : decode cX7_closes 55 = .ok (.iconst 1, 1) := dk_4 (dk_at dksX7_closes_2 7 rfl rfl)
theorem dX7_closes_56 : decode cX7_closes 56 = .ok (.isub, 1) := dk_100 (dk_at dksX7_closes_2 8 rfl rfl)
theorem dX7_closes_57 : decode cX7_closes 57 = .ok (.iaload, 1) := dk_46 (dk_at dksX7_closes_2 9 rfl rfl)
theorem dX7_closes_58 : decode cX7_closes 58 = .ok (.ifCond .le 23, 3) := dk_158 0 23 (dk_at dksX7_closes_2 10 rfl rfl)
theorem dX7_closes_61 : decode cX7_closes 61 = .ok (.aload_n 0, 1) := dk_42 (dk_at dksX7_closes_2 13 rfl rfl)
theorem dX7_closes_62 : decode cX7_closes 62 = .ok (.aload_n 0, 1) := dk_42 (dk_at dksX7_closes_2 14 rfl rfl)
theorem dX7_closes_63 : decode cX7_closes 63 = .ok (.getfield 52, 3) := dk_180 0 52 (dk_at dksX7_closes_2 15 rfl rfl)
theorem dX7_closes_66 : decode cX7_closes 66 = .ok (.aload_n 0, 1) := dk_42 (dk_at dksX7_closes_2 18 rfl rfl)
theorem dX7_closes_67 : decode cX7_closes 67 = .ok (.getfield 348, 3) := dk_180 1 92 (dk_at dksX7_closes_2 19 rfl rfl)
theorem dX7_closes_70 : decode cX7_closes 70 = .ok (.iconst 1, 1) := dk_4 (dk_at dksX7_closes_2 22 rfl rfl)
theorem dX7_closes_71 : decode cX7_closes 71 = .ok (.isub, 1) := dk_100 (dk_at dksX7_closes_2 23 rfl rfl)
theorem dX7_closes_72 : decode cX7_closes 72 = .ok (.iaload, 1) := dk_46 (dk_at dksX7_closes_3 0 rfl rfl)
theorem dX7_closes_73 : decode cX7_closes 73 = .ok (.putfield 159, 3) := dk_181 0 159 (dk_at dksX7_closes_3 1 rfl rfl)
theorem dX7_closes_76 : decode cX7_closes 76 = .ok (.aload_n 0, 1) := dk_42 (dk_at dksX7_closes_3 4 rfl rfl)
theorem dX7_closes_77 : decode cX7_closes 77 = .ok (.invokevirtual 195, 3) := dk_182 0 195 (dk_at dksX7_closes_3 5 rfl rfl)
theorem dX7_closes_80 : decode cX7_closes 80 = .ok (.return_, 1) := dk_177 (dk_at dksX7_closes_3 8 rfl rfl)
theorem dX7_closes_81 : decode cX7_closes 81 = .ok (.aload_n 0, 1) := dk_42 (dk_at dksX7_closes_3 9 rfl rfl)
theorem dX7_closes_82 : decode cX7_closes 82 = .ok (.dup, 1) := dk_89 (dk_at dksX7_closes_3 10 rfl rfl)
theorem dX7_closes_83 : decode cX7_closes 83 = .ok (.getfield 348, 3) := dk_180 1 92 (dk_at dksX7_closes_3 11 rfl rfl)
theorem dX7_closes_86 : decode cX7_closes 86 = .ok (.iconst 1, 1) := dk_4 (dk_at dksX7_closes_3 14 rfl rfl)
theorem dX7_closes_87 : decode cX7_closes 87 = .ok (.isub, 1) := dk_100 (dk_at dksX7_closes_3 15 rfl rfl)
theorem dX7_closes_88 : decode cX7_closes 88 = .ok (.putfield 348, 3) := dk_181 1 92 (dk_at dksX7_closes_3 16 rfl rfl)
theorem dX7_closes_91 : decode cX7_closes 91 = .ok (.aload_n 0, 1) := dk_42 (dk_at dksX7_closes_3 19 rfl rfl)
theorem dX7_closes_92 : decode cX7_closes 92 = .ok (.invokevirtual 205, 3) := dk_182 0 205 (dk_at dksX7_closes_3 20 rfl rfl)
theorem dX7_closes_95 : decode cX7_closes 95 = .ok (.aload_n 0, 1) := dk_42 (dk_at dksX7_closes_3 23 rfl rfl)
theorem dX7_closes_96 : decode cX7_closes 96 = .ok (.bipush 59, 2) := dk_16 59 (dk_at dksX7_closes_4 0 rfl rfl)
theorem dX7_closes_98 : decode cX7_closes 98 = .ok (.invokevirtual 232, 3) := dk_182 0 232 (dk_at dksX7_closes_4 2 rfl rfl)
theorem dX7_closes_101 : decode cX7_closes 101 = .ok (.return_, 1) := dk_177 (dk_at dksX7_closes_4 5 rfl rfl)
abbrev iX7_closes : xM := (yX7_closes, cX7_closes, 1, none, [])
theorem mX7_closes : xOkM iX7_closes := ⟨by decide +kernel, by decide, q3757, q175⟩
abbrev cX7_order : ByteArray := prog_15_method_73_code
def yX7_order : MethodName := ⟨RX7, "order", "()V"⟩
def dkwX7_order_6 : List UInt8 := [16, 59, 182, 0, 232, 177]
abbrev dktX7_order_6 : List UInt8 := dkwX7_order_6 ++ []
def dkwX7_order_5 : List UInt8 := [42, 182, 1, 105, 177, 28, 153, 0, 11, 42, 33, 182, 1, 108, 167, 0, 8, 42, 33, 182, 1, 112, 42]
abbrev dktX7_order_5 : List UInt8 := dkwX7_order_5 ++ dktX7_order_6
def dkwX7_order_4 : List UInt8 := [181, 1, 102, 42, 180, 0, 189, 153, 0, 4, 177, 42, 180, 0, 174, 66, 42, 182, 0, 205, 27, 153, 0, 8]
abbrev dktX7_order_4 : List UInt8 := dkwX7_order_4 ++ dktX7_order_5
def dkwX7_order_3 : List UInt8 := [180, 1, 102, 16, 30, 162, 0, 7, 4, 167, 0, 4, 3, 7, 182, 0, 201, 42, 89, 180, 1, 102, 4, 96]
abbrev dktX7_order_3 : List UInt8 := dkwX7_order_3 ++ dktX7_order_4
def dkwX7_order_2 : List UInt8 := [182, 0, 226, 153, 0, 7, 4, 167, 0, 4, 3, 4, 182, 0, 201, 42, 180, 1, 18, 154, 0, 32, 42, 42]
abbrev dktX7_order_2 : List UInt8 := dkwX7_order_2 ++ dktX7_order_3
def dkwX7_order_1 : List UInt8 := [20, 1, 100, 182, 0, 226, 154, 0, 23, 42, 20, 1, 79, 182, 0, 226, 154, 0, 13, 42, 20, 1, 81]
abbrev dktX7_order_1 : List UInt8 := dkwX7_order_1 ++ dktX7_order_2
def dkwX7_order_0 : List UInt8 := [42, 20, 1, 95, 182, 0, 226, 60, 42, 182, 1, 97, 61, 42, 27, 154, 0, 37, 28, 154, 0, 33, 42]
abbrev dktX7_order_0 : List UInt8 := dkwX7_order_0 ++ dktX7_order_1
theorem dksX7_order_0 : cX7_order.data.toList.drop 0 = dktX7_order_0 := by decide +kernel
theorem dksX7_order_1 : cX7_order.data.toList.drop 23 = dktX7_order_1 := dk_seg dksX7_order_0 23 rfl rfl
theorem dksX7_order_2 : cX7_order.data.toList.drop 46 = dktX7_order_2 := dk_seg dksX7_order_1 23 rfl rfl
theorem dksX7_order_3 : cX7_order.data.toList.drop 70 = dktX7_order_3 := dk_seg dksX7_order_2 24 rfl rfl
theorem dksX7_order_4 : cX7_order.data.toList.drop 94 = dktX7_order_4 := dk_seg dksX7_order_3 24 rfl rfl
theorem dksX7_order_5 : cX7_order.data.toList.drop 118 = dktX7_order_5 := dk_seg dksX7_order_4 24 rfl rfl
theorem dksX7_order_6 : cX7_order.data.toList.drop 141 = dktX7_order_6 := dk_seg dksX7_order_5 23 rfl rfl
theorem dX7_order_0 : decode cX7_order 0 = .ok (.aload_n 0, 1) := dk_42 (dk_at dksX7_order_0 0 rfl rfl)
theorem dX7_order_1 : decode cX7_order 1 = .ok (.ldc2_w 351, 3) := dk_20 1 95 (dk_at dksX7_order_0 1 rfl rfl)
theorem dX7_order_4 : decode cX7_order 4 = .ok (.invokevirtual 226, 3) := dk_182 0 226 (dk_at dksX7_order_0 4 rfl rfl)
theorem dX7_order_7 : decode cX7_order 7 = .ok (.istore_n 1, 1) := dk_60 (dk_at dksX7_order_0 7 rfl rfl)
theorem dX7_order_8 : decode cX7_order 8 = .ok (.aload_n 0, 1) := dk_42 (dk_at dksX7_order_0 8 rfl rfl)
theorem dX7_order_9 : decode cX7_order 9 = .ok (.invokevirtual 353, 3) := dk_182 1 97 (dk_at dksX7_order_0 9 rfl rfl)
theorem dX7_order_12 : decode cX7_order 12 = .ok (.istore_n 2, 1) := dk_61 (dk_at dksX7_order_0 12 rfl rfl)
theorem dX7_order_13 : decode cX7_order 13 = .ok (.aload_n 0, 1) := dk_42 (dk_at dksX7_order_0 13 rfl rfl)
theorem dX7_order_14 : decode cX7_order 14 = .ok (.iload_n 1, 1) := dk_27 (dk_at dksX7_order_0 14 rfl rfl)
theorem dX7_order_15 : decode cX7_order 15 = .ok (.ifCond .ne 37, 3) := dk_154 0 37 (dk_at dksX7_order_0 15 rfl rfl)
theorem dX7_order_18 : decode cX7_order 18 = .ok (.iload_n 2, 1) := dk_28 (dk_at dksX7_order_0 18 rfl rfl)
theorem dX7_order_19 : decode cX7_order 19 = .ok (.ifCond .ne 33, 3) := dk_154 0 33 (dk_at dksX7_order_0 19 rfl rfl)
theorem dX7_order_22 : decode cX7_order 22 = .ok (.aload_n 0, 1) := dk_42 (dk_at dksX7_order_0 22 rfl rfl)
theorem dX7_order_23 : decode cX7_order 23 = .ok (.ldc2_w 356, 3) := dk_20 1 100 (dk_at dksX7_order_1 0 rfl rfl)
theorem dX7_order_26 : decode cX7_order 26 = .ok (.invokevirtual 226, 3) := dk_182 0 226 (dk_at dksX7_order_1 3 rfl rfl)
theorem dX7_order_29 : decode cX7_order 29 = .ok (.ifCond .ne 23, 3) := dk_154 0 23 (dk_at dksX7_order_1 6 rfl rfl)
theorem dX7_order_32 : decode cX7_order 32 = .ok (.aload_n 0, 1) := dk_42 (dk_at dksX7_order_1 9 rfl rfl)
theorem dX7_order_33 : decode cX7_order 33 = .ok (.ldc2_w 335, 3) := dk_20 1 79 (dk_at dksX7_order_1 10 rfl rfl)
theorem dX7_order_36 : decode cX7_order 36 = .ok (.invokevirtual 226, 3) := dk_182 0 226 (dk_at dksX7_order_1 13 rfl rfl)
theorem dX7_order_39 : decode cX7_order 39 = .ok (.ifCond .ne 13, 3) := dk_154 0 13 (dk_at dksX7_order_1 16 rfl rfl)
theorem dX7_order_42 : decode cX7_order 42 = .ok (.aload_n 0, 1) := dk_42 (dk_at dksX7_order_1 19 rfl rfl)
theorem dX7_order_43 : decode cX7_order 43 = .ok (.ldc2_w 337, 3) := dk_20 1 81 (dk_at dksX7_order_1 20 rfl rfl)
theorem dX7_order_46 : decode cX7_order 46 = .ok (.invokevirtual 226, 3) := dk_182 0 226 (dk_at dksX7_order_2 0 rfl rfl)
theorem dX7_order_49 : decode cX7_order 49 = .ok (.ifCond .eq 7, 3) := dk_153 0 7 (dk_at dksX7_order_2 3 rfl rfl)
theorem dX7_order_52 : decode cX7_order 52 = .ok (.iconst 1, 1) := dk_4 (dk_at dksX7_order_2 6 rfl rfl)
theorem dX7_order_53 : decode cX7_order 53 = .ok (.goto 4, 3) := dk_167 0 4 (dk_at dksX7_order_2 7 rfl rfl)
theorem dX7_order_56 : decode cX7_order 56 = .ok (.iconst 0, 1) := dk_3 (dk_at dksX7_order_2 10 rfl rfl)
theorem dX7_order_57 : decode cX7_order 57 = .ok (.iconst 1, 1) := dk_4 (dk_at dksX7_order_2 11 rfl rfl)
theorem dX7_order_58 : decode cX7_order 58 = .ok (.invokevirtual 201, 3) := dk_182 0 201 (dk_at dksX7_order_2 12 rfl rfl)
theorem dX7_order_61 : decode cX7_order 61 = .ok (.aload_n 0, 1) := dk_42 (dk_at dksX7_order_2 15 rfl rfl)
theorem dX7_order_62 : decode cX7_order 62 = .ok (.getfield 274, 3) := dk_180 1 18 (dk_at dksX7_order_2 16 rfl rfl)
theorem dX7_order_65 : decode cX7_order 65 = .ok (.ifCond .ne 32, 3) := dk_154 0 32 (dk_at dksX7_order_2 19 rfl rfl)
theorem dX7_order_68 : decode cX7_order 68 = .ok (.aload_n 0, 1) := dk_42 (dk_at dksX7_order_2 22 rfl rfl)
theorem dX7_order_69 : decode cX7_order 69 = .ok (.aload_n 0, 1) := dk_42 (dk_at dksX7_order_2 23 rfl rfl)
theorem dX7_order_70 : decode cX7_order 70 = .ok (.getfield 358, 3) := dk_180 1 102 (dk_at dksX7_order_3 0 rfl rfl)
theorem dX7_order_73 : decode cX7_order 73 = .ok (.bipush 30, 2) := dk_16 30 (dk_at dksX7_order_3 3 rfl rfl)
theorem dX7_order_75 : decode cX7_order 75 = .ok (.if_icmp .ge 7, 3) := dk_162 0 7 (dk_at dksX7_order_3 5 rfl rfl)
theorem dX7_order_78 : decode cX7_order 78 = .ok (.iconst 1, 1) := dk_4 (dk_at dksX7_order_3 8 rfl rfl)
theorem dX7_order_79 : decode cX7_order 79 = .ok (.goto 4, 3) := dk_167 0 4 (dk_at dksX7_order_3 9 rfl rfl)
theorem dX7_order_82 : decode cX7_order 82 = .ok (.iconst 0, 1) := dk_3 (dk_at dksX7_order_3 12 rfl rfl)
theorem dX7_order_83 : decode cX7_order 83 = .ok (.iconst 4, 1) := dk_7 (dk_at dksX7_order_3 13 rfl rfl)
theorem dX7_order_84 : decode cX7_order 84 = .ok (.invokevirtual 201, 3) := dk_182 0 201 (dk_at dksX7_order_3 14 rfl rfl)
theorem dX7_order_87 : decode cX7_order 87 = .ok (.aload_n 0, 1) := dk_42 (dk_at dksX7_order_3 17 rfl rfl)
theorem dX7_order_88 : decode cX7_order 88 = .ok (.dup, 1) := dk_89 (dk_at dksX7_order_3 18 rfl rfl)
theorem dX7_order_89 : decode cX7_order 89 = .ok (.getfield 358, 3) := dk_180 1 102 (dk_at dksX7_order_3 19 rfl rfl)
theorem dX7_order_92 : decode cX7_order 92 = .ok (.iconst 1, 1) := dk_4 (dk_at dksX7_order_3 22 rfl rfl)
theorem dX7_order_93 : decode cX7_order 93 = .ok (.iadd, 1) := dk_96 (dk_at dksX7_order_3 23 rfl rfl)
theorem dX7_order_94 : decode cX7_order 94 = .ok (.putfield 358, 3) := dk_181 1 102 (dk_at dksX7_order_4 0 rfl rfl)
theorem dX7_order_97 : decode cX7_order 97 = .ok (.aload_n 0, 1) := dk_42 (dk_at dksX7_order_4 3 rfl rfl)
theorem dX7_order_98 : decode cX7_order 98 = .ok (.getfield 189, 3) := dk_180 0 189 (dk_at dksX7_order_4 4 rfl rfl)
theorem dX7_order_101 : decode cX7_order 101 = .ok (.ifCond .eq 4, 3) := dk_153 0 4 (dk_at dksX7_order_4 7 rfl rfl)
theorem dX7_order_104 : decode cX7_order 104 = .ok (.return_, 1) := dk_177 (dk_at dksX7_order_4 10 rfl rfl)
theorem dX7_order_105 : decode cX7_order 105 = .ok (.aload_n 0, 1) := dk_42 (dk_at dksX7_order_4 11 rfl rfl)
theorem dX7_order_106 : decode cX7_order 106 = .ok (.getfield 174, 3) := dk_180 0 174 (dk_at dksX7_order_4 12 rfl rfl)
theorem dX7_order_109 : decode cX7_order 109 = .ok (.lstore_n 3, 1) := dk_66 (dk_at dksX7_order_4 15 rfl rfl)
theorem dX7_order_110 : decode cX7_order 110 = .ok (.aload_n 0, 1) := dk_42 (dk_at dksX7_order_4 16 rfl rfl)
theorem dX7_order_111 : decode cX7_order 111 = .ok (.invokevirtual 205, 3) := dk_182 0 205 (dk_at dksX7_order_4 17 rfl rfl)
theorem dX7_order_114 : decode cX7_order 114 = .ok (.iload_n 1, 1) := dk_27 (dk_at dksX7_order_4 20 rfl rfl)
theorem dX7_order_115 : decode cX7_order 115 = .ok (.ifCond .eq 8, 3) := dk_153 0 8 (dk_at dksX7_order_4 21 rfl rfl)
theorem dX7_order_118 : decode cX7_order 118 = .ok (.aload_n 0, 1) := dk_42 (dk_at dksX7_order_5 0 rfl rfl)
theorem dX7_order_119 : decode cX7_order 119 = .ok (.invokevirtual 361, 3) := dk_182 1 105 (dk_at dksX7_order_5 1 rfl rfl)
theorem dX7_order_122 : decode cX7_order 122 = .ok (.return_, 1) := dk_177 (dk_at dksX7_order_5 4 rfl rfl)
theorem dX7_order_123 : decode cX7_order 123 = .ok (.iload_n 2, 1) := dk_28 (dk_at dksX7_order_5 5 rfl rfl)
theorem dX7_order_124 : decode cX7_order 124 = .ok (.ifCond .eq 11, 3) := dk_153 0 11 (dk_at dksX7_order_5 6 rfl rfl)
theorem dX7_order_127 : decode cX7_order 127 = .ok (.aload_n 0, 1) := dk_42 (dk_at dksX7_order_5 9 rfl rfl)
theorem dX7_order_128 : decode cX7_order 128 = .ok (.lload_n 3, 1) := dk_33 (dk_at dksX7_order_5 10 rfl rfl)
theorem dX7_order_129 : decode cX7_order 129 = .ok (.invokevirtual 364, 3) := dk_182 1 108 (dk_at dksX7_order_5 11 rfl rfl)
theorem dX7_order_132 : decode cX7_order 132 = .ok (.goto 8, 3) := dk_167 0 8 (dk_at dksX7_order_5 14 rfl rfl)
theorem dX7_order_135 : decode cX7_order 135 = .ok (.aload_n 0, 1) := dk_42 (dk_at dksX7_order_5 17 rfl rfl)
theorem dX7_order_136 : decode cX7_order 136 = .ok (.lload_n 3, 1) := dk_33 (dk_at dksX7_order_5 18 rfl rfl)
theorem dX7_order_137 : decode cX7_order 137 = .ok (.invokevirtual 368, 3) := dk_182 1 112 (dk_at dksX7_order_5 19 rfl rfl)
theorem dX7_order_140 : decode cX7_order 140 = .ok (.aload_n 0, 1) := dk_42 (dk_at dksX7_order_5 22 rfl rfl)
theorem dX7_order_141 : decode cX7_order 141 = .ok (.bipush 59, 2) := dk_16 59 (dk_at dksX7_order_6 0 rfl rfl)
theorem dX7_order_143 : decode cX7_order 143 = .ok (.invokevirtual 232, 3) := dk_182 0 232 (dk_at dksX7_order_6 2 rfl rfl)
theorem dX7_order_146 : decode cX7_order 146 = .ok (.return_, 1) := dk_177 (dk_at dksX7_order_6 5 rfl rfl)
abbrev iX7_order : xM := (yX7_order, cX7_order, 5, none, [])
theorem mX7_order : xOkM iX7_order := ⟨by decide +kernel, by decide, q3761, q175⟩
abbrev cX7_isOfName : ByteArray := prog_15_method_61_code
def yX7_isOfName : MethodName := ⟨RX7, "isOfName", "()Z"⟩
def dkwX7_isOfName_2 : List UInt8 := [154, 0, 13, 42, 20, 1, 16, 182, 0, 226, 153, 0, 7, 4, 167, 0, 4, 3, 172]
abbrev dktX7_isOfName_2 : List UInt8 := dkwX7_isOfName_2 ++ []
def dkwX7_isOfName_1 : List UInt8 := [182, 0, 226, 154, 0, 33, 42, 20, 1, 12, 182, 0, 226, 154, 0, 23, 42, 20, 1, 14, 182, 0, 226]
abbrev dktX7_isOfName_1 : List UInt8 := dkwX7_isOfName_1 ++ dktX7_isOfName_2
def dkwX7_isOfName_0 : List UInt8 := [42, 20, 1, 6, 182, 0, 226, 154, 0, 53, 42, 20, 1, 8, 182, 0, 226, 154, 0, 43, 42, 20, 1, 10]
abbrev dktX7_isOfName_0 : List UInt8 := dkwX7_isOfName_0 ++ dktX7_isOfName_1
theorem dksX7_isOfName_0 : cX7_isOfName.data.toList.drop 0 = dktX7_isOfName_0 := by decide +kernel
theorem dksX7_isOfName_1 : cX7_isOfName.data.toList.drop 24 = dktX7_isOfName_1 := dk_seg dksX7_isOfName_0 24 rfl rfl
theorem dksX7_isOfName_2 : cX7_isOfName.data.toList.drop 47 = dktX7_isOfName_2 := dk_seg dksX7_isOfName_1 23 rfl rfl
theorem dX7_isOfName_0 : decode cX7_isOfName 0 = .ok (.aload_n 0, 1) := dk_42 (dk_at dksX7_isOfName_0 0 rfl rfl)
theorem dX7_isOfName_1 : decode cX7_isOfName 1 = .ok (.ldc2_w 262, 3) := dk_20 1 6 (dk_at dksX7_isOfName_0 1 rfl rfl)
theorem dX7_isOfName_4 : decode cX7_isOfName 4 = .ok (.invokevirtual 226, 3) := dk_182 0 226 (dk_at dksX7_isOfName_0 4 rfl rfl)
theorem dX7_isOfName_7 : decode cX7_isOfName 7 = .ok (.ifCond .ne 53, 3) := dk_154 0 53 (dk_at dksX7_isOfName_0 7 rfl rfl)
theorem dX7_isOfName_10 : decode cX7_isOfName 10 = .ok (.aload_n 0, 1) := dk_42 (dk_at dksX7_isOfName_0 10 rfl rfl)
theorem dX7_isOfName_11 : decode cX7_isOfName 11 = .ok (.ldc2_w 264, 3) := dk_20 1 8 (dk_at dksX7_isOfName_0 11 rfl rfl)
theorem dX7_isOfName_14 : decode cX7_isOfName 14 = .ok (.invokevirtual 226, 3) := dk_182 0 226 (dk_at dksX7_isOfName_0 14 rfl rfl)
theorem dX7_isOfName_17 : decode cX7_isOfName 17 = .ok (.ifCond .ne 43, 3) := dk_154 0 43 (dk_at dksX7_isOfName_0 17 rfl rfl)
theorem dX7_isOfName_20 : decode cX7_isOfName 20 = .ok (.aload_n 0, 1) := dk_42 (dk_at dksX7_isOfName_0 20 rfl rfl)
theorem dX7_isOfName_21 : decode cX7_isOfName 21 = .ok (.ldc2_w 266, 3) := dk_20 1 10 (dk_at dksX7_isOfName_0 21 rfl rfl)
theorem dX7_isOfName_24 : decode cX7_isOfName 24 = .ok (.invokevirtual 226, 3) := dk_182 0 226 (dk_at dksX7_isOfName_1 0 rfl rfl)
theorem dX7_isOfName_27 : decode cX7_isOfName 27 = .ok (.ifCond .ne 33, 3) := dk_154 0 33 (dk_at dksX7_isOfName_1 3 rfl rfl)
theorem dX7_isOfName_30 : decode cX7_isOfName 30 = .ok (.aload_n 0, 1) := dk_42 (dk_at dksX7_isOfName_1 6 rfl rfl)
theorem dX7_isOfName_31 : decode cX7_isOfName 31 = .ok (.ldc2_w 268, 3) := dk_20 1 12 (dk_at dksX7_isOfName_1 7 rfl rfl)
theorem dX7_isOfName_34 : decode cX7_isOfName 34 = .ok (.invokevirtual 226, 3) := dk_182 0 226 (dk_at dksX7_isOfName_1 10 rfl rfl)
theorem dX7_isOfName_37 : decode cX7_isOfName 37 = .ok (.ifCond .ne 23, 3) := dk_154 0 23 (dk_at dksX7_isOfName_1 13 rfl rfl)
theorem dX7_isOfName_40 : decode cX7_isOfName 40 = .ok (.aload_n 0, 1) := dk_42 (dk_at dksX7_isOfName_1 16 rfl rfl)
theorem dX7_isOfName_41 : decode cX7_isOfName 41 = .ok (.ldc2_w 270, 3) := dk_20 1 14 (dk_at dksX7_isOfName_1 17 rfl rfl)
theorem dX7_isOfName_44 : decode cX7_isOfName 44 = .ok (.invokevirtual 226, 3) := dk_182 0 226 (dk_at dksX7_isOfName_1 20 rfl rfl)
theorem dX7_isOfName_47 : decode cX7_isOfName 47 = .ok (.ifCond .ne 13, 3) := dk_154 0 13 (dk_at dksX7_isOfName_2 0 rfl rfl)
theorem dX7_isOfName_50 : decode cX7_isOfName 50 = .ok (.aload_n 0, 1) := dk_42 (dk_at dksX7_isOfName_2 3 rfl rfl)
theorem dX7_isOfName_51 : decode cX7_isOfName 51 = .ok (.ldc2_w 272, 3) := dk_20 1 16 (dk_at dksX7_isOfName_2 4 rfl rfl)
theorem dX7_isOfName_54 : decode cX7_isOfName 54 = .ok (.invokevirtual 226, 3) := dk_182 0 226 (dk_at dksX7_isOfName_2 7 rfl rfl)
theorem dX7_isOfName_57 : decode cX7_isOfName 57 = .ok (.ifCond .eq 7, 3) := dk_153 0 7 (dk_at dksX7_isOfName_2 10 rfl rfl)
theorem dX7_isOfName_60 : decode cX7_isOfName 60 = .ok (.iconst 1, 1) := dk_4 (dk_at dksX7_isOfName_2 13 rfl rfl)
theorem dX7_isOfName_61 : decode cX7_isOfName 61 = .ok (.goto 4, 3) := dk_167 0 4 (dk_at dksX7_isOfName_2 14 rfl rfl)
theorem dX7_isOfName_64 : decode cX7_isOfName 64 = .ok (.iconst 0, 1) := dk_3 (dk_at dksX7_isOfName_2 17 rfl rfl)
theorem dX7_isOfName_65 : decode cX7_isOfName 65 = .ok (.ireturn, 1) := dk_172 (dk_at dksX7_isOfName_2 18 rfl rfl)
abbrev iX7_isOfName : xM := (yX7_isOfName, cX7_isOfName, 1, (some .boolean), [])
theorem mX7_isOfName : xOkM iX7_isOfName := ⟨by decide +kernel, by decide, q3766, q175⟩
abbrev cX7_againOrder : ByteArray := prog_15_method_71_code
def yX7_againOrder : MethodName := ⟨RX7, "againOrder", "()V"⟩
def dkwX7_againOrder_3 : List UInt8 := [42, 180, 1, 92, 4, 100, 42, 180, 0, 164, 79, 42, 180, 0, 55, 42, 180, 1, 92, 4, 100, 27, 79, 177]
abbrev dktX7_againOrder_3 : List UInt8 := dkwX7_againOrder_3 ++ []
def dkwX7_againOrder_2 : List UInt8 := [182, 0, 205, 42, 180, 0, 189, 154, 0, 40, 42, 89, 180, 1, 92, 4, 96, 181, 1, 92, 42, 180, 0, 52]
abbrev dktX7_againOrder_2 : List UInt8 := dkwX7_againOrder_2 ++ dktX7_againOrder_3
def dkwX7_againOrder_1 : List UInt8 := [182, 0, 198, 153, 0, 11, 42, 180, 1, 92, 5, 162, 0, 7, 4, 167, 0, 4, 3, 7, 182, 0, 201, 42]
abbrev dktX7_againOrder_1 : List UInt8 := dkwX7_againOrder_1 ++ dktX7_againOrder_2
def dkwX7_againOrder_0 : List UInt8 := [42, 4, 16, 20, 182, 0, 208, 60, 42, 42, 16, 40, 182, 0, 198, 4, 182, 0, 201, 42, 42, 16, 40]
abbrev dktX7_againOrder_0 : List UInt8 := dkwX7_againOrder_0 ++ dktX7_againOrder_1
theorem dksX7_againOrder_0 : cX7_againOrder.data.toList.drop 0 = dktX7_againOrder_0 := by decide +kernel
theorem dksX7_againOrder_1 : cX7_againOrder.data.toList.drop 23 = dktX7_againOrder_1 := dk_seg dksX7_againOrder_0 23 rfl rfl
theorem dksX7_againOrder_2 : cX7_againOrder.data.toList.drop 47 = dktX7_againOrder_2 := dk_seg dksX7_againOrder_1 24 rfl rfl
theorem dksX7_againOrder_3 : cX7_againOrder.data.toList.drop 71 = dktX7_againOrder_3 := dk_seg dksX7_againOrder_2 24 rfl rfl
theorem dX7_againOrder_0 : decode cX7_againOrder 0 = .ok (.aload_n 0, 1) := dk_42 (dk_at dksX7_againOrder_0 0 rfl rfl)
theorem dX7_againOrder_1 : decode cX7_againOrder 1 = .ok (.iconst 1, 1) := dk_4 (dk_at dksX7_againOrder_0 1 rfl rfl)
theorem dX7_againOrder_2 : decode cX7_againOrder 2 = .ok (.bipush 20, 2) := dk_16 20 (dk_at dksX7_againOrder_0 2 rfl rfl)
theorem dX7_againOrder_4 : decode cX7_againOrder 4 = .ok (.invokevirtual 208, 3) := dk_182 0 208 (dk_at dksX7_againOrder_0 4 rfl rfl)
theorem dX7_againOrder_7 : decode cX7_againOrder 7 = .ok (.istore_n 1, 1) := dk_60 (dk_at dksX7_againOrder_0 7 rfl rfl)
theorem dX7_againOrder_8 : decode cX7_againOrder 8 = .ok (.aload_n 0, 1) := dk_42 (dk_at dksX7_againOrder_0 8 rfl rfl)
theorem dX7_againOrder_9 : decode cX7_againOrder 9 = .ok (.aload_n 0, 1) := dk_42 (dk_at dksX7_againOrder_0 9 rfl rfl)
theorem dX7_againOrder_10 : decode cX7_againOrder 10 = .ok (.bipush 40, 2) := dk_16 40 (dk_at dksX7_againOrder_0 10 rfl rfl)
theorem dX7_againOrder_12 : decode cX7_againOrder 12 = .ok (.invokevirtual 198, 3) := dk_182 0 198 (dk_at dksX7_againOrder_0 12 rfl rfl)
theorem dX7_againOrder_15 : decode cX7_againOrder 15 = .ok (.iconst 1, 1) := dk_4 (dk_at dksX7_againOrder_0 15 rfl rfl)
theorem dX7_againOrder_16 : decode cX7_againOrder 16 = .ok (.invokevirtual 201, 3) := dk_182 0 201 (dk_at dksX7_againOrder_0 16 rfl rfl)
theorem dX7_againOrder_19 : decode cX7_againOrder 19 = .ok (.aload_n 0, 1) := dk_42 (dk_at dksX7_againOrder_0 19 rfl rfl)
theorem dX7_againOrder_20 : decode cX7_againOrder 20 = .ok (.aload_n 0, 1) := dk_42 (dk_at dksX7_againOrder_0 20 rfl rfl)
theorem dX7_againOrder_21 : decode cX7_againOrder 21 = .ok (.bipush 40, 2) := dk_16 40 (dk_at dksX7_againOrder_0 21 rfl rfl)
theorem dX7_againOrder_23 : decode cX7_againOrder 23 = .ok (.invokevirtual 198, 3) := dk_182 0 198 (dk_at dksX7_againOrder_1 0 rfl rfl)
theorem dX7_againOrder_26 : decode cX7_againOrder 26 = .ok (.ifCond .eq 11, 3) := dk_153 0 11 (dk_at dksX7_againOrder_1 3 rfl rfl)
theorem dX7_againOrder_29 : decode cX7_againOrder 29 = .ok (.aload_n 0, 1) := dk_42 (dk_at dksX7_againOrder_1 6 rfl rfl)
theorem dX7_againOrder_30 : decode cX7_againOrder 30 = .ok (.getfield 348, 3) := dk_180 1 92 (dk_at dksX7_againOrder_1 7 rfl rfl)
theorem dX7_againOrder_33 : decode cX7_againOrder 33 = .ok (.iconst 2, 1) := dk_5 (dk_at dksX7_againOrder_1 10 rfl rfl)
theorem dX7_againOrder_34 : decode cX7_againOrder 34 = .ok (.if_icmp .ge 7, 3) := dk_162 0 7 (dk_at dksX7_againOrder_1 11 rfl rfl)
theorem dX7_againOrder_37 : decode cX7_againOrder 37 = .ok (.iconst 1, 1) := dk_4 (dk_at dksX7_againOrder_1 14 rfl rfl)
theorem dX7_againOrder_38 : decode cX7_againOrder 38 = .ok (.goto 4, 3) := dk_167 0 4 (dk_at dksX7_againOrder_1 15 rfl rfl)
theorem dX7_againOrder_41 : decode cX7_againOrder 41 = .ok (.iconst 0, 1) := dk_3 (dk_at dksX7_againOrder_1 18 rfl rfl)
theorem dX7_againOrder_42 : decode cX7_againOrder 42 = .ok (.iconst 4, 1) := dk_7 (dk_at dksX7_againOrder_1 19 rfl rfl)
theorem dX7_againOrder_43 : decode cX7_againOrder 43 = .ok (.invokevirtual 201, 3) := dk_182 0 201 (dk_at dksX7_againOrder_1 20 rfl rfl)
theorem dX7_againOrder_46 : decode cX7_againOrder 46 = .ok (.aload_n 0, 1) := dk_42 (dk_at dksX7_againOrder_1 23 rfl rfl)
theorem dX7_againOrder_47 : decode cX7_againOrder 47 = .ok (.invokevirtual 205, 3) := dk_182 0 205 (dk_at dksX7_againOrder_2 0 rfl rfl)
theorem dX7_againOrder_50 : decode cX7_againOrder 50 = .ok (.aload_n 0, 1) := dk_42 (dk_at dksX7_againOrder_2 3 rfl rfl)
theorem dX7_againOrder_51 : decode cX7_againOrder 51 = .ok (.getfield 189, 3) := dk_180 0 189 (dk_at dksX7_againOrder_2 4 rfl rfl)
theorem dX7_againOrder_54 : decode cX7_againOrder 54 = .ok (.ifCond .ne 40, 3) := dk_154 0 40 (dk_at dksX7_againOrder_2 7 rfl rfl)
theorem dX7_againOrder_57 : decode cX7_againOrder 57 = .ok (.aload_n 0, 1) := dk_42 (dk_at dksX7_againOrder_2 10 rfl rfl)
theorem dX7_againOrder_58 : decode cX7_againOrder 58 = .ok (.dup, 1) := dk_89 (dk_at dksX7_againOrder_2 11 rfl rfl)
theorem dX7_againOrder_59 : decode cX7_againOrder 59 = .ok (.getfield 348, 3) := dk_180 1 92 (dk_at dksX7_againOrder_2 12 rfl rfl)
theorem dX7_againOrder_62 : decode cX7_againOrder 62 = .ok (.iconst 1, 1) := dk_4 (dk_at dksX7_againOrder_2 15 rfl rfl)
theorem dX7_againOrder_63 : decode cX7_againOrder 63 = .ok (.iadd, 1) := dk_96 (dk_at dksX7_againOrder_2 16 rfl rfl)
theorem dX7_againOrder_64 : decode cX7_againOrder 64 = .ok (.putfield 348, 3) := dk_181 1 92 (dk_at dksX7_againOrder_2 17 rfl rfl)
theorem dX7_againOrder_67 : decode cX7_againOrder 67 = .ok (.aload_n 0, 1) := dk_42 (dk_at dksX7_againOrder_2 20 rfl rfl)
theorem dX7_againOrder_68 : decode cX7_againOrder 68 = .ok (.getfield 52, 3) := dk_180 0 52 (dk_at dksX7_againOrder_2 21 rfl rfl)
theorem dX7_againOrder_71 : decode cX7_againOrder 71 = .ok (.aload_n 0, 1) := dk_42 (dk_at dksX7_againOrder_3 0 rfl rfl)
theorem dX7_againOrder_72 : decode cX7_againOrder 72 = .ok (.getfield 348, 3) := dk_180 1 92 (dk_at dksX7_againOrder_3 1 rfl rfl)
theorem dX7_againOrder_75 : decode cX7_againOrder 75 = .ok (.iconst 1, 1) := dk_4 (dk_at dksX7_againOrder_3 4 rfl rfl)
theorem dX7_againOrder_76 : decode cX7_againOrder 76 = .ok (.isub, 1) := dk_100 (dk_at dksX7_againOrder_3 5 rfl rfl)
theorem dX7_againOrder_77 : decode cX7_againOrder 77 = .ok (.aload_n 0, 1) := dk_42 (dk_at dksX7_againOrder_3 6 rfl rfl)
theorem dX7_againOrder_78 : decode cX7_againOrder 78 = .ok (.getfield 164, 3) := dk_180 0 164 (dk_at dksX7_againOrder_3 7 rfl rfl)
theorem dX7_againOrder_81 : decode cX7_againOrder 81 = .ok (.iastore, 1) := dk_79 (dk_at dksX7_againOrder_3 10 rfl rfl)
theorem dX7_againOrder_82 : decode cX7_againOrder 82 = .ok (.aload_n 0, 1) := dk_42 (dk_at dksX7_againOrder_3 11 rfl rfl)
theorem dX7_againOrder_83 : decode cX7_againOrder 83 = .ok (.getfield 55, 3) := dk_180 0 55 (dk_at dksX7_againOrder_3 12 rfl rfl)
theorem dX7_againOrder_86 : decode cX7_againOrder 86 = .ok (.aload_n 0, 1) := dk_42 (dk_at dksX7_againOrder_3 15 rfl rfl)
theorem dX7_againOrder_87 : decode cX7_againOrder 87 = .ok (.getfield 348, 3) := dk_180 1 92 (dk_at dksX7_againOrder_3 16 rfl rfl)
theorem dX7_againOrder_90 : decode cX7_againOrder 90 = .ok (.iconst 1, 1) := dk_4 (dk_at dksX7_againOrder_3 19 rfl rfl)
theorem dX7_againOrder_91 : decode cX7_againOrder 91 = .ok (.isub, 1) := dk_100 (dk_at dksX7_againOrder_3 20 rfl rfl)
theorem dX7_againOrder_92 : decode cX7_againOrder 92 = .ok (.iload_n 1, 1) := dk_27 (dk_at dksX7_againOrder_3 21 rfl rfl)
theorem dX7_againOrder_93 : decode cX7_againOrder 93 = .ok (.iastore, 1) := dk_79 (dk_at dksX7_againOrder_3 22 rfl rfl)
theorem dX7_againOrder_94 : decode cX7_againOrder 94 = .ok (.return_, 1) := dk_177 (dk_at dksX7_againOrder_3 23 rfl rfl)
abbrev iX7_againOrder : xM := (yX7_againOrder, cX7_againOrder, 2, none, [])
theorem mX7_againOrder : xOkM iX7_againOrder := ⟨by decide +kernel, by decide, q3779, q175⟩
abbrev cX7_nameOrder : ByteArray := prog_15_method_69_code
def yX7_nameOrder : MethodName := ⟨RX7, "nameOrder", "(J)V"⟩
def dkwX7_nameOrder_3 : List UInt8 := [182, 0, 218, 182, 1, 75, 177]
abbrev dktX7_nameOrder_3 : List UInt8 := dkwX7_nameOrder_3 ++ []
def dkwX7_nameOrder_2 : List UInt8 := [20, 1, 14, 148, 154, 0, 7, 4, 167, 0, 4, 3, 182, 1, 71, 167, 0, 13, 42, 31, 42, 29]
abbrev dktX7_nameOrder_2 : List UInt8 := dkwX7_nameOrder_2 ++ dktX7_nameOrder_3
def dkwX7_nameOrder_1 : List UInt8 := [20, 1, 14, 148, 153, 0, 11, 31, 20, 1, 16, 148, 154, 0, 28, 42, 42, 29, 182, 0, 218, 31]
abbrev dktX7_nameOrder_1 : List UInt8 := dkwX7_nameOrder_1 ++ dktX7_nameOrder_2
def dkwX7_nameOrder_0 : List UInt8 := [42, 182, 1, 28, 62, 31, 20, 1, 12, 148, 154, 0, 11, 42, 29, 182, 1, 68, 167, 0, 54, 31]
abbrev dktX7_nameOrder_0 : List UInt8 := dkwX7_nameOrder_0 ++ dktX7_nameOrder_1
theorem dksX7_nameOrder_0 : cX7_nameOrder.data.toList.drop 0 = dktX7_nameOrder_0 := by decide +kernel
theorem dksX7_nameOrder_1 : cX7_nameOrder.data.toList.drop 22 = dktX7_nameOrder_1 := dk_seg dksX7_nameOrder_0 22 rfl rfl
theorem dksX7_nameOrder_2 : cX7_nameOrder.data.toList.drop 44 = dktX7_nameOrder_2 := dk_seg dksX7_nameOrder_1 22 rfl rfl
theorem dksX7_nameOrder_3 : cX7_nameOrder.data.toList.drop 66 = dktX7_nameOrder_3 := dk_seg dksX7_nameOrder_2 22 rfl rfl
theorem dX7_nameOrder_0 : decode cX7_nameOrder 0 = .ok (.aload_n 0, 1) := dk_42 (dk_at dksX7_nameOrder_0 0 rfl rfl)
theorem dX7_nameOrder_1 : decode cX7_nameOrder 1 = .ok (.invokevirtual 284, 3) := dk_182 1 28 (dk_at dksX7_nameOrder_0 1 rfl rfl)
theorem dX7_nameOrder_4 : decode cX7_nameOrder 4 = .ok (.istore_n 3, 1) := dk_62 (dk_at dksX7_nameOrder_0 4 rfl rfl)
theorem dX7_nameOrder_5 : decode cX7_nameOrder 5 = .ok (.lload_n 1, 1) := dk_31 (dk_at dksX7_nameOrder_0 5 rfl rfl)
theorem dX7_nameOrder_6 : decode cX7_nameOrder 6 = .ok (.ldc2_w 268, 3) := dk_20 1 12 (dk_at dksX7_nameOrder_0 6 rfl rfl)
theorem dX7_nameOrder_9 : decode cX7_nameOrder 9 = .ok (.lcmp, 1) := dk_148 (dk_at dksX7_nameOrder_0 9 rfl rfl)
theorem dX7_nameOrder_10 : decode cX7_nameOrder 10 = .ok (.ifCond .ne 11, 3) := dk_154 0 11 (dk_at dksX7_nameOrder_0 10 rfl rfl)
theorem dX7_nameOrder_13 : decode cX7_nameOrder 13 = .ok (.aload_n 0, 1) := dk_42 (dk_at dksX7_nameOrder_0 13 rfl rfl)
theorem dX7_nameOrder_14 : decode cX7_nameOrder 14 = .ok (.iload_n 3, 1) := dk_29 (dk_at dksX7_nameOrder_0 14 rfl rfl)
theorem dX7_nameOrder_15 : decode cX7_nameOrder 15 = .ok (.invokevirtual 324, 3) := dk_182 1 68 (dk_at dksX7_nameOrder_0 15 rfl rfl)
theorem dX7_nameOrder_18 : decode cX7_nameOrder 18 = .ok (.goto 54, 3) := dk_167 0 54 (dk_at dksX7_nameOrder_0 18 rfl rfl)
theorem dX7_nameOrder_21 : decode cX7_nameOrder 21 = .ok (.lload_n 1, 1) := dk_31 (dk_at dksX7_nameOrder_0 21 rfl rfl)
theorem dX7_nameOrder_22 : decode cX7_nameOrder 22 = .ok (.ldc2_w 270, 3) := dk_20 1 14 (dk_at dksX7_nameOrder_1 0 rfl rfl)
theorem dX7_nameOrder_25 : decode cX7_nameOrder 25 = .ok (.lcmp, 1) := dk_148 (dk_at dksX7_nameOrder_1 3 rfl rfl)
theorem dX7_nameOrder_26 : decode cX7_nameOrder 26 = .ok (.ifCond .eq 11, 3) := dk_153 0 11 (dk_at dksX7_nameOrder_1 4 rfl rfl)
theorem dX7_nameOrder_29 : decode cX7_nameOrder 29 = .ok (.lload_n 1, 1) := dk_31 (dk_at dksX7_nameOrder_1 7 rfl rfl)
theorem dX7_nameOrder_30 : decode cX7_nameOrder 30 = .ok (.ldc2_w 272, 3) := dk_20 1 16 (dk_at dksX7_nameOrder_1 8 rfl rfl)
theorem dX7_nameOrder_33 : decode cX7_nameOrder 33 = .ok (.lcmp, 1) := dk_148 (dk_at dksX7_nameOrder_1 11 rfl rfl)
theorem dX7_nameOrder_34 : decode cX7_nameOrder 34 = .ok (.ifCond .ne 28, 3) := dk_154 0 28 (dk_at dksX7_nameOrder_1 12 rfl rfl)
theorem dX7_nameOrder_37 : decode cX7_nameOrder 37 = .ok (.aload_n 0, 1) := dk_42 (dk_at dksX7_nameOrder_1 15 rfl rfl)
theorem dX7_nameOrder_38 : decode cX7_nameOrder 38 = .ok (.aload_n 0, 1) := dk_42 (dk_at dksX7_nameOrder_1 16 rfl rfl)
theorem dX7_nameOrder_39 : decode cX7_nameOrder 39 = .ok (.iload_n 3, 1) := dk_29 (dk_at dksX7_nameOrder_1 17 rfl rfl)
theorem dX7_nameOrder_40 : decode cX7_nameOrder 40 = .ok (.invokevirtual 218, 3) := dk_182 0 218 (dk_at dksX7_nameOrder_1 18 rfl rfl)
theorem dX7_nameOrder_43 : decode cX7_nameOrder 43 = .ok (.lload_n 1, 1) := dk_31 (dk_at dksX7_nameOrder_1 21 rfl rfl)
theorem dX7_nameOrder_44 : decode cX7_nameOrder 44 = .ok (.ldc2_w 270, 3) := dk_20 1 14 (dk_at dksX7_nameOrder_2 0 rfl rfl)
theorem dX7_nameOrder_47 : decode cX7_nameOrder 47 = .ok (.lcmp, 1) := dk_148 (dk_at dksX7_nameOrder_2 3 rfl rfl)
theorem dX7_nameOrder_48 : decode cX7_nameOrder 48 = .ok (.ifCond .ne 7, 3) := dk_154 0 7 (dk_at dksX7_nameOrder_2 4 rfl rfl)
theorem dX7_nameOrder_51 : decode cX7_nameOrder 51 = .ok (.iconst 1, 1) := dk_4 (dk_at dksX7_nameOrder_2 7 rfl rfl)
theorem dX7_nameOrder_52 : decode cX7_nameOrder 52 = .ok (.goto 4, 3) := dk_167 0 4 (dk_at dksX7_nameOrder_2 8 rfl rfl)
theorem dX7_nameOrder_55 : decode cX7_nameOrder 55 = .ok (.iconst 0, 1) := dk_3 (dk_at dksX7_nameOrder_2 11 rfl rfl)
theorem dX7_nameOrder_56 : decode cX7_nameOrder 56 = .ok (.invokevirtual 327, 3) := dk_182 1 71 (dk_at dksX7_nameOrder_2 12 rfl rfl)
theorem dX7_nameOrder_59 : decode cX7_nameOrder 59 = .ok (.goto 13, 3) := dk_167 0 13 (dk_at dksX7_nameOrder_2 15 rfl rfl)
theorem dX7_nameOrder_62 : decode cX7_nameOrder 62 = .ok (.aload_n 0, 1) := dk_42 (dk_at dksX7_nameOrder_2 18 rfl rfl)
theorem dX7_nameOrder_63 : decode cX7_nameOrder 63 = .ok (.lload_n 1, 1) := dk_31 (dk_at dksX7_nameOrder_2 19 rfl rfl)
theorem dX7_nameOrder_64 : decode cX7_nameOrder 64 = .ok (.aload_n 0, 1) := dk_42 (dk_at dksX7_nameOrder_2 20 rfl rfl)
theorem dX7_nameOrder_65 : decode cX7_nameOrder 65 = .ok (.iload_n 3, 1) := dk_29 (dk_at dksX7_nameOrder_2 21 rfl rfl)
theorem dX7_nameOrder_66 : decode cX7_nameOrder 66 = .ok (.invokevirtual 218, 3) := dk_182 0 218 (dk_at dksX7_nameOrder_3 0 rfl rfl)
theorem dX7_nameOrder_69 : decode cX7_nameOrder 69 = .ok (.invokevirtual 331, 3) := dk_182 1 75 (dk_at dksX7_nameOrder_3 3 rfl rfl)
theorem dX7_nameOrder_72 : decode cX7_nameOrder 72 = .ok (.return_, 1) := dk_177 (dk_at dksX7_nameOrder_3 6 rfl rfl)
abbrev iX7_nameOrder : xM := (yX7_nameOrder, cX7_nameOrder, 4, none, [])
theorem mX7_nameOrder : xOkM iX7_nameOrder := ⟨by decide +kernel, by decide, q3783, q175⟩
abbrev cX7_nameText : ByteArray := prog_15_method_64_code
def yX7_nameText : MethodName := ⟨RX7, "nameText", "()I"⟩
def dkwX7_nameText_1 : List UInt8 := [3, 60, 42, 182, 0, 205, 27, 172]
abbrev dktX7_nameText_1 : List UInt8 := dkwX7_nameText_1 ++ []
def dkwX7_nameText_0 : List UInt8 := [42, 42, 182, 0, 211, 4, 182, 0, 201, 42, 182, 0, 215, 153, 0, 11, 42, 180, 0, 174, 136, 167, 0, 4]
abbrev dktX7_nameText_0 : List UInt8 := dkwX7_nameText_0 ++ dktX7_nameText_1
theorem dksX7_nameText_0 : cX7_nameText.data.toList.drop 0 = dktX7_nameText_0 := by decide +kernel
theorem dksX7_nameText_1 : cX7_nameText.data.toList.drop 24 = dktX7_nameText_1 := dk_seg dksX7_nameText_0 24 rfl rfl
theorem dX7_nameText_0 : decode cX7_nameText 0 = .ok (.aload_n 0, 1) := dk_42 (dk_at dksX7_nameText_0 0 rfl rfl)
theorem dX7_nameText_1 : decode cX7_nameText 1 = .ok (.aload_n 0, 1) := dk_42 (dk_at dksX7_nameText_0 1 rfl rfl)
theorem dX7_nameText_2 : decode cX7_nameText 2 = .ok (.invokevirtual 211, 3) := dk_182 0 211 (dk_at dksX7_nameText_0 2 rfl rfl)
theorem dX7_nameText_5 : decode cX7_nameText 5 = .ok (.iconst 1, 1) := dk_4 (dk_at dksX7_nameText_0 5 rfl rfl)
theorem dX7_nameText_6 : decode cX7_nameText 6 = .ok (.invokevirtual 201, 3) := dk_182 0 201 (dk_at dksX7_nameText_0 6 rfl rfl)
theorem dX7_nameText_9 : decode cX7_nameText 9 = .ok (.aload_n 0, 1) := dk_42 (dk_at dksX7_nameText_0 9 rfl rfl)
theorem dX7_nameText_10 : decode cX7_nameText 10 = .ok (.invokevirtual 215, 3) := dk_182 0 215 (dk_at dksX7_nameText_0 10 rfl rfl)
theorem dX7_nameText_13 : decode cX7_nameText 13 = .ok (.ifCond .eq 11, 3) := dk_153 0 11 (dk_at dksX7_nameText_0 13 rfl rfl)
theorem dX7_nameText_16 : decode cX7_nameText 16 = .ok (.aload_n 0, 1) := dk_42 (dk_at dksX7_nameText_0 16 rfl rfl)
theorem dX7_nameText_17 : decode cX7_nameText 17 = .ok (.getfield 174, 3) := dk_180 0 174 (dk_at dksX7_nameText_0 17 rfl rfl)
theorem dX7_nameText_20 : decode cX7_nameText 20 = .ok (.l2i, 1) := dk_136 (dk_at dksX7_nameText_0 20 rfl rfl)
theorem dX7_nameText_21 : decode cX7_nameText 21 = .ok (.goto 4, 3) := dk_167 0 4 (dk_at dksX7_nameText_0 21 rfl rfl)
theorem dX7_nameText_24 : decode cX7_nameText 24 = .ok (.iconst 0, 1) := dk_3 (dk_at dksX7_nameText_1 0 rfl rfl)
theorem dX7_nameText_25 : decode cX7_nameText 25 = .ok (.istore_n 1, 1) := dk_60 (dk_at dksX7_nameText_1 1 rfl rfl)
theorem dX7_nameText_26 : decode cX7_nameText 26 = .ok (.aload_n 0, 1) := dk_42 (dk_at dksX7_nameText_1 2 rfl rfl)
theorem dX7_nameText_27 : decode cX7_nameText 27 = .ok (.invokevirtual 205, 3) := dk_182 0 205 (dk_at dksX7_nameText_1 3 rfl rfl)
theorem dX7_nameText_30 : decode cX7_nameText 30 = .ok (.iload_n 1, 1) := dk_27 (dk_at dksX7_nameText_1 6 rfl rfl)
theorem dX7_nameText_31 : decode cX7_nameText 31 = .ok (.ireturn, 1) := dk_172 (dk_at dksX7_nameText_1 7 rfl rfl)
abbrev iX7_nameText : xM := (yX7_nameText, cX7_nameText, 2, (some .int), [])
theorem mX7_nameText : xOkM iX7_nameText := ⟨by decide +kernel, by decide, q3787, q175⟩
abbrev cX7_swapText : ByteArray := prog_15_method_66_code
def yX7_swapText : MethodName := ⟨RX7, "swapText", "(I)V"⟩
def dkwX7_swapText_4 : List UInt8 := [167, 0, 4, 2, 54, 5, 42, 21, 4, 182, 1, 40, 177]
abbrev dktX7_swapText_4 : List UInt8 := dkwX7_swapText_4 ++ []
def dkwX7_swapText_3 : List UInt8 := [182, 1, 34, 153, 0, 7, 4, 167, 0, 4, 3, 54, 4, 21, 4, 153, 0, 12, 42, 28, 29, 182, 1, 37]
abbrev dktX7_swapText_3 : List UInt8 := dkwX7_swapText_3 ++ dktX7_swapText_4
def dkwX7_swapText_2 : List UInt8 := [182, 0, 218, 62, 42, 182, 1, 31, 153, 0, 52, 28, 2, 159, 0, 21, 29, 2, 159, 0, 16, 42, 28, 29]
abbrev dktX7_swapText_2 : List UInt8 := dkwX7_swapText_2 ++ dktX7_swapText_3
def dkwX7_swapText_1 : List UInt8 := [180, 0, 174, 136, 27, 159, 0, 7, 4, 167, 0, 4, 3, 6, 182, 0, 201, 42, 42, 182, 1, 28]
abbrev dktX7_swapText_1 : List UInt8 := dkwX7_swapText_1 ++ dktX7_swapText_2
def dkwX7_swapText_0 : List UInt8 := [42, 27, 182, 0, 218, 61, 42, 42, 182, 0, 211, 4, 182, 0, 201, 42, 42, 182, 0, 215, 153, 0, 12, 42]
abbrev dktX7_swapText_0 : List UInt8 := dkwX7_swapText_0 ++ dktX7_swapText_1
theorem dksX7_swapText_0 : cX7_swapText.data.toList.drop 0 = dktX7_swapText_0 := by decide +kernel
theorem dksX7_swapText_1 : cX7_swapText.data.toList.drop 24 = dktX7_swapText_1 := dk_seg dksX7_swapText_0 24 rfl rfl
theorem dksX7_swapText_2 : cX7_swapText.data.toList.drop 46 = dktX7_swapText_2 := dk_seg dksX7_swapText_1 22 rfl rfl
theorem dksX7_swapText_3 : cX7_swapText.data.toList.drop 70 = dktX7_swapText_3 := dk_seg dksX7_swapText_2 24 rfl rfl
theorem dksX7_swapText_4 : cX7_swapText.data.toList.drop 94 = dktX7_swapText_4 := dk_seg dksX7_swapText_3 24 rfl rfl
theorem dX7_swapText_0 : decode cX7_swapText 0 = .ok (.aload_n 0, 1) := dk_42 (dk_at dksX7_swapText_0 0 rfl rfl)
theorem dX7_swapText_1 : decode cX7_swapText 1 = .ok (.iload_n 1, 1) := dk_27 (dk_at dksX7_swapText_0 1 rfl rfl)
theorem dX7_swapText_2 : decode cX7_swapText 2 = .ok (.invokevirtual 218, 3) := dk_182 0 218 (dk_at dksX7_swapText_0 2 rfl rfl)
theorem dX7_swapText_5 : decode cX7_swapText 5 = .ok (.istore_n 2, 1) := dk_61 (dk_at dksX7_swapText_0 5 rfl rfl)
theorem dX7_swapText_6 : decode cX7_swapText 6 = .ok (.aload_n 0, 1) := dk_42 (dk_at dksX7_swapText_0 6 rfl rfl)
theorem dX7_swapText_7 : decode cX7_swapText 7 = .ok (.aload_n 0, 1) := dk_42 (dk_at dksX7_swapText_0 7 rfl rfl)
theorem dX7_swapText_8 : decode cX7_swapText 8 = .ok (.invokevirtual 211, 3) := dk_182 0 211 (dk_at dksX7_swapText_0 8 rfl rfl)
theorem dX7_swapText_11 : decode cX7_swapText 11 = .ok (.iconst 1, 1) := dk_4 (dk_at dksX7_swapText_0 11 rfl rfl)
theorem dX7_swapText_12 : decode cX7_swapText 12 = .ok (.invokevirtual 201, 3) := dk_182 0 201 (dk_at dksX7_swapText_0 12 rfl rfl)
theorem dX7_swapText_15 : decode cX7_swapText 15 = .ok (.aload_n 0, 1) := dk_42 (dk_at dksX7_swapText_0 15 rfl rfl)
theorem dX7_swapText_16 : decode cX7_swapText 16 = .ok (.aload_n 0, 1) := dk_42 (dk_at dksX7_swapText_0 16 rfl rfl)
theorem dX7_swapText_17 : decode cX7_swapText 17 = .ok (.invokevirtual 215, 3) := dk_182 0 215 (dk_at dksX7_swapText_0 17 rfl rfl)
theorem dX7_swapText_20 : decode cX7_swapText 20 = .ok (.ifCond .eq 12, 3) := dk_153 0 12 (dk_at dksX7_swapText_0 20 rfl rfl)
theorem dX7_swapText_23 : decode cX7_swapText 23 = .ok (.aload_n 0, 1) := dk_42 (dk_at dksX7_swapText_0 23 rfl rfl)
theorem dX7_swapText_24 : decode cX7_swapText 24 = .ok (.getfield 174, 3) := dk_180 0 174 (dk_at dksX7_swapText_1 0 rfl rfl)
theorem dX7_swapText_27 : decode cX7_swapText 27 = .ok (.l2i, 1) := dk_136 (dk_at dksX7_swapText_1 3 rfl rfl)
theorem dX7_swapText_28 : decode cX7_swapText 28 = .ok (.iload_n 1, 1) := dk_27 (dk_at dksX7_swapText_1 4 rfl rfl)
theorem dX7_swapText_29 : decode cX7_swapText 29 = .ok (.if_icmp .eq 7, 3) := dk_159 0 7 (dk_at dksX7_swapText_1 5 rfl rfl)
theorem dX7_swapText_32 : decode cX7_swapText 32 = .ok (.iconst 1, 1) := dk_4 (dk_at dksX7_swapText_1 8 rfl rfl)
theorem dX7_swapText_33 : decode cX7_swapText 33 = .ok (.goto 4, 3) := dk_167 0 4 (dk_at dksX7_swapText_1 9 rfl rfl)
theorem dX7_swapText_36 : decode cX7_swapText 36 = .ok (.iconst 0, 1) := dk_3 (dk_at dksX7_swapText_1 12 rfl rfl)
theorem dX7_swapText_37 : decode cX7_swapText 37 = .ok (.iconst 3, 1) := dk_6 (dk_at dksX7_swapText_1 13 rfl rfl)
theorem dX7_swapText_38 : decode cX7_swapText 38 = .ok (.invokevirtual 201, 3) := dk_182 0 201 (dk_at dksX7_swapText_1 14 rfl rfl)
theorem dX7_swapText_41 : decode cX7_swapText 41 = .ok (.aload_n 0, 1) := dk_42 (dk_at dksX7_swapText_1 17 rfl rfl)
theorem dX7_swapText_42 : decode cX7_swapText 42 = .ok (.aload_n 0, 1) := dk_42 (dk_at dksX7_swapText_1 18 rfl rfl)
theorem dX7_swapText_43 : decode cX7_swapText 43 = .ok (.invokevirtual 284, 3) := dk_182 1 28 (dk_at dksX7_swapText_1 19 rfl rfl)
theorem dX7_swapText_46 : decode cX7_swapText 46 = .ok (.invokevirtual 218, 3) := dk_182 0 218 (dk_at dksX7_swapText_2 0 rfl rfl)
theorem dX7_swapText_49 : decode cX7_swapText 49 = .ok (.istore_n 3, 1) := dk_62 (dk_at dksX7_swapText_2 3 rfl rfl)
theorem dX7_swapText_50 : decode cX7_swapText 50 = .ok (.aload_n 0, 1) := dk_42 (dk_at dksX7_swapText_2 4 rfl rfl)
theorem dX7_swapText_51 : decode cX7_swapText 51 = .ok (.invokevirtual 287, 3) := dk_182 1 31 (dk_at dksX7_swapText_2 5 rfl rfl)
theorem dX7_swapText_54 : decode cX7_swapText 54 = .ok (.ifCond .eq 52, 3) := dk_153 0 52 (dk_at dksX7_swapText_2 8 rfl rfl)
theorem dX7_swapText_57 : decode cX7_swapText 57 = .ok (.iload_n 2, 1) := dk_28 (dk_at dksX7_swapText_2 11 rfl rfl)
theorem dX7_swapText_58 : decode cX7_swapText 58 = .ok (.iconst (-1), 1) := dk_2 (dk_at dksX7_swapText_2 12 rfl rfl)
theorem dX7_swapText_59 : decode cX7_swapText 59 = .ok (.if_icmp .eq 21, 3) := dk_159 0 21 (dk_at dksX7_swapText_2 13 rfl rfl)
theorem dX7_swapText_62 : decode cX7_swapText 62 = .ok (.iload_n 3, 1) := dk_29 (dk_at dksX7_swapText_2 16 rfl rfl)
theorem dX7_swapText_63 : decode cX7_swapText 63 = .ok (.iconst (-1), 1) := dk_2 (dk_at dksX7_swapText_2 17 rfl rfl)
theorem dX7_swapText_64 : decode cX7_swapText 64 = .ok (.if_icmp .eq 16, 3) := dk_159 0 16 (dk_at dksX7_swapText_2 18 rfl rfl)
theorem dX7_swapText_67 : decode cX7_swapText 67 = .ok (.aload_n 0, 1) := dk_42 (dk_at dksX7_swapText_2 21 rfl rfl)
theorem dX7_swapText_68 : decode cX7_swapText 68 = .ok (.iload_n 2, 1) := dk_28 (dk_at dksX7_swapText_2 22 rfl rfl)
theorem dX7_swapText_69 : decode cX7_swapText 69 = .ok (.iload_n 3, 1) := dk_29 (dk_at dksX7_swapText_2 23 rfl rfl)
theorem dX7_swapText_70 : decode cX7_swapText 70 = .ok (.invokevirtual 290, 3) := dk_182 1 34 (dk_at dksX7_swapText_3 0 rfl rfl)
theorem dX7_swapText_73 : decode cX7_swapText 73 = .ok (.ifCond .eq 7, 3) := dk_153 0 7 (dk_at dksX7_swapText_3 3 rfl rfl)
theorem dX7_swapText_76 : decode cX7_swapText 76 = .ok (.iconst 1, 1) := dk_4 (dk_at dksX7_swapText_3 6 rfl rfl)
theorem dX7_swapText_77 : decode cX7_swapText 77 = .ok (.goto 4, 3) := dk_167 0 4 (dk_at dksX7_swapText_3 7 rfl rfl)
theorem dX7_swapText_80 : decode cX7_swapText 80 = .ok (.iconst 0, 1) := dk_3 (dk_at dksX7_swapText_3 10 rfl rfl)
theorem dX7_swapText_81 : decode cX7_swapText 81 = .ok (.istore 4, 2) := dk_54 4 (dk_at dksX7_swapText_3 11 rfl rfl)
theorem dX7_swapText_83 : decode cX7_swapText 83 = .ok (.iload 4, 2) := dk_21 4 (dk_at dksX7_swapText_3 13 rfl rfl)
theorem dX7_swapText_85 : decode cX7_swapText 85 = .ok (.ifCond .eq 12, 3) := dk_153 0 12 (dk_at dksX7_swapText_3 15 rfl rfl)
theorem dX7_swapText_88 : decode cX7_swapText 88 = .ok (.aload_n 0, 1) := dk_42 (dk_at dksX7_swapText_3 18 rfl rfl)
theorem dX7_swapText_89 : decode cX7_swapText 89 = .ok (.iload_n 2, 1) := dk_28 (dk_at dksX7_swapText_3 19 rfl rfl)
theorem dX7_swapText_90 : decode cX7_swapText 90 = .ok (.iload_n 3, 1) := dk_29 (dk_at dksX7_swapText_3 20 rfl rfl)
theorem dX7_swapText_91 : decode cX7_swapText 91 = .ok (.invokevirtual 293, 3) := dk_182 1 37 (dk_at dksX7_swapText_3 21 rfl rfl)
theorem dX7_swapText_94 : decode cX7_swapText 94 = .ok (.goto 4, 3) := dk_167 0 4 (dk_at dksX7_swapText_4 0 rfl rfl)
theorem dX7_swapText_97 : decode cX7_swapText 97 = .ok (.iconst (-1), 1) := dk_2 (dk_at dksX7_swapText_4 3 rfl rfl)
theorem dX7_swapText_98 : decode cX7_swapText 98 = .ok (.istore 5, 2) := dk_54 5 (dk_at dksX7_swapText_4 4 rfl rfl)
theorem dX7_swapText_100 : decode cX7_swapText 100 = .ok (.aload_n 0, 1) := dk_42 (dk_at dksX7_swapText_4 6 rfl rfl)
theorem dX7_swapText_101 : decode cX7_swapText 101 = .ok (.iload 4, 2) := dk_21 4 (dk_at dksX7_swapText_4 7 rfl rfl)
theorem dX7_swapText_103 : decode cX7_swapText 103 = .ok (.invokevirtual 296, 3) := dk_182 1 40 (dk_at dksX7_swapText_4 9 rfl rfl)
theorem dX7_swapText_106 : decode cX7_swapText 106 = .ok (.return_, 1) := dk_177 (dk_at dksX7_swapText_4 12 rfl rfl)
abbrev iX7_swapText : xM := (yX7_swapText, cX7_swapText, 6, none, [])
theorem mX7_swapText : xOkM iX7_swapText := ⟨by decide +kernel, by decide, q3791, q175⟩
abbrev cX7_isActive : ByteArray := prog_15_method_62_code
def yX7_isActive : MethodName := ⟨RX7, "isActive", "()Z"⟩
def dkwX7_isActive_1 : List UInt8 := [167, 0, 4, 3, 172]
abbrev dktX7_isActive_1 : List UInt8 := dkwX7_isActive_1 ++ []
def dkwX7_isActive_0 : List UInt8 := [42, 180, 1, 18, 153, 0, 21, 42, 180, 0, 189, 154, 0, 14, 42, 180, 1, 22, 154, 0, 7, 4]
abbrev dktX7_isActive_0 : List UInt8 := dkwX7_isActive_0 ++ dktX7_isActive_1
theorem dksX7_isActive_0 : cX7_isActive.data.toList.drop 0 = dktX7_isActive_0 := by decide +kernel
theorem dksX7_isActive_1 : cX7_isActive.data.toList.drop 22 = dktX7_isActive_1 := dk_seg dksX7_isActive_0 22 rfl rfl
theorem dX7_isActive_0 : decode cX7_isActive 0 = .ok (.aload_n 0, 1) := dk_42 (dk_at dksX7_isActive_0 0 rfl rfl)
theorem dX7_isActive_1 : decode cX7_isActive 1 = .ok (.getfield 274, 3) := dk_180 1 18 (dk_at dksX7_isActive_0 1 rfl rfl)
theorem dX7_isActive_4 : decode cX7_isActive 4 = .ok (.ifCond .eq 21, 3) := dk_153 0 21 (dk_at dksX7_isActive_0 4 rfl rfl)
theorem dX7_isActive_7 : decode cX7_isActive 7 = .ok (.aload_n 0, 1) := dk_42 (dk_at dksX7_isActive_0 7 rfl rfl)
theorem dX7_isActive_8 : decode cX7_isActive 8 = .ok (.getfield 189, 3) := dk_180 0 189 (dk_at dksX7_isActive_0 8 rfl rfl)
theorem dX7_isActive_11 : decode cX7_isActive 11 = .ok (.ifCond .ne 14, 3) := dk_154 0 14 (dk_at dksX7_isActive_0 11 rfl rfl)
theorem dX7_isActive_14 : decode cX7_isActive 14 = .ok (.aload_n 0, 1) := dk_42 (dk_at dksX7_isActive_0 14 rfl rfl)
theorem dX7_isActive_15 : decode cX7_isActive 15 = .ok (.getfield 278, 3) := dk_180 1 22 (dk_at dksX7_isActive_0 15 rfl rfl)
theorem dX7_isActive_18 : decode cX7_isActive 18 = .ok (.ifCond .ne 7, 3) := dk_154 0 7 (dk_at dksX7_isActive_0 18 rfl rfl)
theorem dX7_isActive_21 : decode cX7_isActive 21 = .ok (.iconst 1, 1) := dk_4 (dk_at dksX7_isActive_0 21 rfl rfl)
theorem dX7_isActive_22 : decode cX7_isActive 22 = .ok (.goto 4, 3) := dk_167 0 4 (dk_at dksX7_isActive_1 0 rfl rfl)
theorem dX7_isActive_25 : decode cX7_isActive 25 = .ok (.iconst 0, 1) := dk_3 (dk_at dksX7_isActive_1 3 rfl rfl)
theorem dX7_isActive_26 : decode cX7_isActive 26 = .ok (.ireturn, 1) := dk_172 (dk_at dksX7_isActive_1 4 rfl rfl)
abbrev iX7_isActive : xM := (yX7_isActive, cX7_isActive, 1, (some .boolean), [])
theorem mX7_isActive : xOkM iX7_isActive := ⟨by decide +kernel, by decide, q3795, q175⟩
abbrev cX7_canSwap : ByteArray := prog_15_method_33_code
def yX7_canSwap : MethodName := ⟨RX7, "canSwap", "(II)Z"⟩
def dkwX7_canSwap_0 : List UInt8 := [42, 27, 182, 0, 127, 2, 159, 0, 16, 42, 28, 182, 0, 127, 2, 159, 0, 7, 4, 167, 0, 4, 3, 172]
abbrev dktX7_canSwap_0 : List UInt8 := dkwX7_canSwap_0 ++ []
theorem dksX7_canSwap_0 : cX7_canSwap.data.toList.drop 0 = dktX7_canSwap_0 := by decide +kernel
theorem dX7_canSwap_0 : decode cX7_canSwap 0 = .ok (.aload_n 0, 1) := dk_42 (dk_at dksX7_canSwap_0 0 rfl rfl)
theorem dX7_canSwap_1 : decode cX7_canSwap 1 = .ok (.iload_n 1, 1) := dk_27 (dk_at dksX7_canSwap_0 1 rfl rfl)
theorem dX7_canSwap_2 : decode cX7_canSwap 2 = .ok (.invokevirtual 127, 3) := dk_182 0 127 (dk_at dksX7_canSwap_0 2 rfl rfl)
theorem dX7_canSwap_5 : decode cX7_canSwap 5 = .ok (.iconst (-1), 1) := dk_2 (dk_at dksX7_canSwap_0 5 rfl rfl)
theorem dX7_canSwap_6 : decode cX7_canSwap 6 = .ok (.if_icmp .eq 16, 3) := dk_159 0 16 (dk_at dksX7_canSwap_0 6 rfl rfl)
theorem dX7_canSwap_9 : decode cX7_canSwap 9 = .ok (.aload_n 0, 1) := dk_42 (dk_at dksX7_canSwap_0 9 rfl rfl)
theorem dX7_canSwap_10 : decode cX7_canSwap 10 = .ok (.iload_n 2, 1) := dk_28 (dk_at dksX7_canSwap_0 10 rfl rfl)
theorem dX7_canSwap_11 : decode cX7_canSwap 11 = .ok (.invokevirtual 127, 3) := dk_182 0 127 (dk_at dksX7_canSwap_0 11 rfl rfl)
theorem dX7_canSwap_14 : decode cX7_canSwap 14 = .ok (.iconst (-1), 1) := dk_2 (dk_at dksX7_canSwap_0 14 rfl rfl)
theorem dX7_canSwap_15 : decode cX7_canSwap 15 = .ok (.if_icmp .eq 7, 3) := dk_159 0 7 (dk_at dksX7_canSwap_0 15 rfl rfl)
theorem dX7_canSwap_18 : decode cX7_canSwap 18 = .ok (.iconst 1, 1) := dk_4 (dk_at dksX7_canSwap_0 18 rfl rfl)
theorem dX7_canSwap_19 : decode cX7_canSwap 19 = .ok (.goto 4, 3) := dk_167 0 4 (dk_at dksX7_canSwap_0 19 rfl rfl)
theorem dX7_canSwap_22 : decode cX7_canSwap 22 = .ok (.iconst 0, 1) := dk_3 (dk_at dksX7_canSwap_0 22 rfl rfl)
theorem dX7_canSwap_23 : decode cX7_canSwap 23 = .ok (.ireturn, 1) := dk_172 (dk_at dksX7_canSwap_0 23 rfl rfl)
abbrev iX7_canSwap : xM := (yX7_canSwap, cX7_canSwap, 3, (some .boolean), [])
theorem mX7_canSwap : xOkM iX7_canSwap := ⟨by decide +kernel, by decide, q3799, q175⟩
abbrev cX7_place : ByteArray := prog_15_method_15_code
def yX7_place : MethodName := ⟨RX7, "place", "(I)I"⟩
def dkwX7_place_1 : List UInt8 := [160, 0, 5, 28, 172, 132, 2, 1, 167, 255, 227, 2, 172]
abbrev dktX7_place_1 : List UInt8 := dkwX7_place_1 ++ []
def dkwX7_place_0 : List UInt8 := [3, 61, 28, 42, 180, 0, 7, 16, 14, 46, 162, 0, 24, 42, 180, 0, 7, 16, 20, 28, 96, 46, 27]
abbrev dktX7_place_0 : List UInt8 := dkwX7_place_0 ++ dktX7_place_1
theorem dksX7_place_0 : cX7_place.data.toList.drop 0 = dktX7_place_0 := by decide +kernel
theorem dksX7_place_1 : cX7_place.data.toList.drop 23 = dktX7_place_1 := dk_seg dksX7_place_0 23 rfl rfl
theorem dX7_place_0 : decode cX7_place 0 = .ok (.iconst 0, 1) := dk_3 (dk_at dksX7_place_0 0 rfl rfl)
theorem dX7_place_1 : decode cX7_place 1 = .ok (.istore_n 2, 1) := dk_61 (dk_at dksX7_place_0 1 rfl rfl)
theorem dX7_place_2 : decode cX7_place 2 = .ok (.iload_n 2, 1) := dk_28 (dk_at dksX7_place_0 2 rfl rfl)
theorem dX7_place_3 : decode cX7_place 3 = .ok (.aload_n 0, 1) := dk_42 (dk_at dksX7_place_0 3 rfl rfl)
theorem dX7_place_4 : decode cX7_place 4 = .ok (.getfield 7, 3) := dk_180 0 7 (dk_at dksX7_place_0 4 rfl rfl)
theorem dX7_place_7 : decode cX7_place 7 = .ok (.bipush 14, 2) := dk_16 14 (dk_at dksX7_place_0 7 rfl rfl)
theorem dX7_place_9 : decode cX7_place 9 = .ok (.iaload, 1) := dk_46 (dk_at dksX7_place_0 9 rfl rfl)
theorem dX7_place_10 : decode cX7_place 10 = .ok (.if_icmp .ge 24, 3) := dk_162 0 24 (dk_at dksX7_place_0 10 rfl rfl)
theorem dX7_place_13 : decode cX7_place 13 = .ok (.aload_n 0, 1) := dk_42 (dk_at dksX7_place_0 13 rfl rfl)
theorem dX7_place_14 : decode cX7_place 14 = .ok (.getfield 7, 3) := dk_180 0 7 (dk_at dksX7_place_0 14 rfl rfl)
theorem dX7_place_17 : decode cX7_place 17 = .ok (.bipush 20, 2) := dk_16 20 (dk_at dksX7_place_0 17 rfl rfl)
theorem dX7_place_19 : decode cX7_place 19 = .ok (.iload_n 2, 1) := dk_28 (dk_at dksX7_place_0 19 rfl rfl)
theorem dX7_place_20 : decode cX7_place 20 = .ok (.iadd, 1) := dk_96 (dk_at dksX7_place_0 20 rfl rfl)
theorem dX7_place_21 : decode cX7_place 21 = .ok (.iaload, 1) := dk_46 (dk_at dksX7_place_0 21 rfl rfl)
theorem dX7_place_22 : decode cX7_place 22 = .ok (.iload_n 1, 1) := dk_27 (dk_at dksX7_place_0 22 rfl rfl)
theorem dX7_place_23 : decode cX7_place 23 = .ok (.if_icmp .ne 5, 3) := dk_160 0 5 (dk_at dksX7_place_1 0 rfl rfl)
theorem dX7_place_26 : decode cX7_place 26 = .ok (.iload_n 2, 1) := dk_28 (dk_at dksX7_place_1 3 rfl rfl)
theorem dX7_place_27 : decode cX7_place 27 = .ok (.ireturn, 1) := dk_172 (dk_at dksX7_place_1 4 rfl rfl)
theorem dX7_place_28 : decode cX7_place 28 = .ok (.iinc 2 1, 3) := dk_132 2 1 (dk_at dksX7_place_1 5 rfl rfl)
theorem dX7_place_31 : decode cX7_place 31 = .ok (.goto (-29), 3) := dk_167 255 227 (dk_at dksX7_place_1 8 rfl rfl)
theorem dX7_place_34 : decode cX7_place 34 = .ok (.iconst (-1), 1) := dk_2 (dk_at dksX7_place_1 11 rfl rfl)
theorem dX7_place_35 : decode cX7_place 35 = .ok (.ireturn, 1) := dk_172 (dk_at dksX7_place_1 12 rfl rfl)
abbrev iX7_place : xM := (yX7_place, cX7_place, 3, (some .int), [])
theorem mX7_place : xOkM iX7_place := ⟨by decide +kernel, by decide, q3803, q175⟩
abbrev cX7_swaps : ByteArray := prog_15_method_34_code
def yX7_swaps : MethodName := ⟨RX7, "swaps", "(II)I"⟩
def dkwX7_swaps_1 : List UInt8 := [180, 0, 7, 16, 20, 21, 4, 96, 27, 79, 21, 4, 172]
abbrev dktX7_swaps_1 : List UInt8 := dkwX7_swaps_1 ++ []
def dkwX7_swaps_0 : List UInt8 := [42, 27, 182, 0, 127, 62, 42, 28, 182, 0, 127, 54, 4, 42, 180, 0, 7, 16, 20, 29, 96, 28, 79, 42]
abbrev dktX7_swaps_0 : List UInt8 := dkwX7_swaps_0 ++ dktX7_swaps_1
theorem dksX7_swaps_0 : cX7_swaps.data.toList.drop 0 = dktX7_swaps_0 := by decide +kernel
theorem dksX7_swaps_1 : cX7_swaps.data.toList.drop 24 = dktX7_swaps_1 := dk_seg dksX7_swaps_0 24 rfl rfl
theorem dX7_swaps_0 : decode cX7_swaps 0 = .ok (.aload_n 0, 1) := dk_42 (dk_at dksX7_swaps_0 0 rfl rfl)
theorem dX7_swaps_1 : decode cX7_swaps 1 = .ok (.iload_n 1, 1) := dk_27 (dk_at dksX7_swaps_0 1 rfl rfl)
theorem dX7_swaps_2 : decode cX7_swaps 2 = .ok (.invokevirtual 127, 3) := dk_182 0 127 (dk_at dksX7_swaps_0 2 rfl rfl)
theorem dX7_swaps_5 : decode cX7_swaps 5 = .ok (.istore_n 3, 1) := dk_62 (dk_at dksX7_swaps_0 5 rfl rfl)
theorem dX7_swaps_6 : decode cX7_swaps 6 = .ok (.aload_n 0, 1) := dk_42 (dk_at dksX7_swaps_0 6 rfl rfl)
theorem dX7_swaps_7 : decode cX7_swaps 7 = .ok (.iload_n 2, 1) := dk_28 (dk_at dksX7_swaps_0 7 rfl rfl)
theorem dX7_swaps_8 : decode cX7_swaps 8 = .ok (.invokevirtual 127, 3) := dk_182 0 127 (dk_at dksX7_swaps_0 8 rfl rfl)
theorem dX7_swaps_11 : decode cX7_swaps 11 = .ok (.istore 4, 2) := dk_54 4 (dk_at dksX7_swaps_0 11 rfl rfl)
theorem dX7_swaps_13 : decode cX7_swaps 13 = .ok (.aload_n 0, 1) := dk_42 (dk_at dksX7_swaps_0 13 rfl rfl)
theorem dX7_swaps_14 : decode cX7_swaps 14 = .ok (.getfield 7, 3) := dk_180 0 7 (dk_at dksX7_swaps_0 14 rfl rfl)
theorem dX7_swaps_17 : decode cX7_swaps 17 = .ok (.bipush 20, 2) := dk_16 20 (dk_at dksX7_swaps_0 17 rfl rfl)
theorem dX7_swaps_19 : decode cX7_swaps 19 = .ok (.iload_n 3, 1) := dk_29 (dk_at dksX7_swaps_0 19 rfl rfl)
theorem dX7_swaps_20 : decode cX7_swaps 20 = .ok (.iadd, 1) := dk_96 (dk_at dksX7_swaps_0 20 rfl rfl)
theorem dX7_swaps_21 : decode cX7_swaps 21 = .ok (.iload_n 2, 1) := dk_28 (dk_at dksX7_swaps_0 21 rfl rfl)
theorem dX7_swaps_22 : decode cX7_swaps 22 = .ok (.iastore, 1) := dk_79 (dk_at dksX7_swaps_0 22 rfl rfl)
theorem dX7_swaps_23 : decode cX7_swaps 23 = .ok (.aload_n 0, 1) := dk_42 (dk_at dksX7_swaps_0 23 rfl rfl)
theorem dX7_swaps_24 : decode cX7_swaps 24 = .ok (.getfield 7, 3) := dk_180 0 7 (dk_at dksX7_swaps_1 0 rfl rfl)
theorem dX7_swaps_27 : decode cX7_swaps 27 = .ok (.bipush 20, 2) := dk_16 20 (dk_at dksX7_swaps_1 3 rfl rfl)
theorem dX7_swaps_29 : decode cX7_swaps 29 = .ok (.iload 4, 2) := dk_21 4 (dk_at dksX7_swaps_1 5 rfl rfl)
theorem dX7_swaps_31 : decode cX7_swaps 31 = .ok (.iadd, 1) := dk_96 (dk_at dksX7_swaps_1 7 rfl rfl)
theorem dX7_swaps_32 : decode cX7_swaps 32 = .ok (.iload_n 1, 1) := dk_27 (dk_at dksX7_swaps_1 8 rfl rfl)
theorem dX7_swaps_33 : decode cX7_swaps 33 = .ok (.iastore, 1) := dk_79 (dk_at dksX7_swaps_1 9 rfl rfl)
theorem dX7_swaps_34 : decode cX7_swaps 34 = .ok (.iload 4, 2) := dk_21 4 (dk_at dksX7_swaps_1 10 rfl rfl)
theorem dX7_swaps_36 : decode cX7_swaps 36 = .ok (.ireturn, 1) := dk_172 (dk_at dksX7_swaps_1 12 rfl rfl)
abbrev iX7_swaps : xM := (yX7_swaps, cX7_swaps, 5, (some .int), [])
theorem mX7_swaps : xOkM iX7_swaps := ⟨by decide +kernel, by decide, q3807, q175⟩
abbrev cX7_came : ByteArray := prog_15_method_63_code
def yX7_came : MethodName := ⟨RX7, "came", "(Z)V"⟩
def dkwX7_came_1 : List UInt8 := [160, 0, 7, 4, 167, 0, 4, 3, 181, 1, 22, 177]
abbrev dktX7_came_1 : List UInt8 := dkwX7_came_1 ++ []
def dkwX7_came_0 : List UInt8 := [42, 89, 180, 1, 25, 27, 184, 0, 110, 96, 181, 1, 25, 42, 27, 153, 0, 12, 42, 180, 1, 25, 16, 40]
abbrev dktX7_came_0 : List UInt8 := dkwX7_came_0 ++ dktX7_came_1
theorem dksX7_came_0 : cX7_came.data.toList.drop 0 = dktX7_came_0 := by decide +kernel
theorem dksX7_came_1 : cX7_came.data.toList.drop 24 = dktX7_came_1 := dk_seg dksX7_came_0 24 rfl rfl
theorem dX7_came_0 : decode cX7_came 0 = .ok (.aload_n 0, 1) := dk_42 (dk_at dksX7_came_0 0 rfl rfl)
theorem dX7_came_1 : decode cX7_came 1 = .ok (.dup, 1) := dk_89 (dk_at dksX7_came_0 1 rfl rfl)
theorem dX7_came_2 : decode cX7_came 2 = .ok (.getfield 281, 3) := dk_180 1 25 (dk_at dksX7_came_0 2 rfl rfl)
theorem dX7_came_5 : decode cX7_came 5 = .ok (.iload_n 1, 1) := dk_27 (dk_at dksX7_came_0 5 rfl rfl)
theorem dX7_came_6 : decode cX7_came 6 = .ok (.invokestatic 110, 3) := dk_184 0 110 (dk_at dksX7_came_0 6 rfl rfl)
theorem dX7_came_9 : decode cX7_came 9 = .ok (.iadd, 1) := dk_96 (dk_at dksX7_came_0 9 rfl rfl)
theorem dX7_came_10 : decode cX7_came 10 = .ok (.putfield 281, 3) := dk_181 1 25 (dk_at dksX7_came_0 10 rfl rfl)
theorem dX7_came_13 : decode cX7_came 13 = .ok (.aload_n 0, 1) := dk_42 (dk_at dksX7_came_0 13 rfl rfl)
theorem dX7_came_14 : decode cX7_came 14 = .ok (.iload_n 1, 1) := dk_27 (dk_at dksX7_came_0 14 rfl rfl)
theorem dX7_came_15 : decode cX7_came 15 = .ok (.ifCond .eq 12, 3) := dk_153 0 12 (dk_at dksX7_came_0 15 rfl rfl)
theorem dX7_came_18 : decode cX7_came 18 = .ok (.aload_n 0, 1) := dk_42 (dk_at dksX7_came_0 18 rfl rfl)
theorem dX7_came_19 : decode cX7_came 19 = .ok (.getfield 281, 3) := dk_180 1 25 (dk_at dksX7_came_0 19 rfl rfl)
theorem dX7_came_22 : decode cX7_came 22 = .ok (.bipush 40, 2) := dk_16 40 (dk_at dksX7_came_0 22 rfl rfl)
theorem dX7_came_24 : decode cX7_came 24 = .ok (.if_icmp .ne 7, 3) := dk_160 0 7 (dk_at dksX7_came_1 0 rfl rfl)
theorem dX7_came_27 : decode cX7_came 27 = .ok (.iconst 1, 1) := dk_4 (dk_at dksX7_came_1 3 rfl rfl)
theorem dX7_came_28 : decode cX7_came 28 = .ok (.goto 4, 3) := dk_167 0 4 (dk_at dksX7_came_1 4 rfl rfl)
theorem dX7_came_31 : decode cX7_came 31 = .ok (.iconst 0, 1) := dk_3 (dk_at dksX7_came_1 7 rfl rfl)
theorem dX7_came_32 : decode cX7_came 32 = .ok (.putfield 278, 3) := dk_181 1 22 (dk_at dksX7_came_1 8 rfl rfl)
theorem dX7_came_35 : decode cX7_came 35 = .ok (.return_, 1) := dk_177 (dk_at dksX7_came_1 11 rfl rfl)
abbrev iX7_came : xM := (yX7_came, cX7_came, 2, none, [])
theorem mX7_came : xOkM iX7_came := ⟨by decide +kernel, by decide, q3811, q175⟩
abbrev cX7_flag : ByteArray := prog_15_method_4_code
def yX7_flag : MethodName := ⟨RX7, "flag", "(Z)I"⟩
def dkwX7_flag_0 : List UInt8 := [26, 153, 0, 7, 4, 167, 0, 4, 3, 172]
abbrev dktX7_flag_0 : List UInt8 := dkwX7_flag_0 ++ []
theorem dksX7_flag_0 : cX7_flag.data.toList.drop 0 = dktX7_flag_0 := by decide +kernel
theorem dX7_flag_0 : decode cX7_flag 0 = .ok (.iload_n 0, 1) := dk_26 (dk_at dksX7_flag_0 0 rfl rfl)
theorem dX7_flag_1 : decode cX7_flag 1 = .ok (.ifCond .eq 7, 3) := dk_153 0 7 (dk_at dksX7_flag_0 1 rfl rfl)
theorem dX7_flag_4 : decode cX7_flag 4 = .ok (.iconst 1, 1) := dk_4 (dk_at dksX7_flag_0 4 rfl rfl)
theorem dX7_flag_5 : decode cX7_flag 5 = .ok (.goto 4, 3) := dk_167 0 4 (dk_at dksX7_flag_0 5 rfl rfl)
theorem dX7_flag_8 : decode cX7_flag 8 = .ok (.iconst 0, 1) := dk_3 (dk_at dksX7_flag_0 8 rfl rfl)
theorem dX7_flag_9 : decode cX7_flag 9 = .ok (.ireturn, 1) := dk_172 (dk_at dksX7_flag_0 9 rfl rfl)
abbrev iX7_flag : xM := (yX7_flag, cX7_flag, 1, (some .int), [])
theorem mX7_flag : xOkM iX7_flag := ⟨by decide +kernel, by decide, q3814, q175⟩
abbrev cX7_rowText : ByteArray := prog_15_method_67_code
def yX7_rowText : MethodName := ⟨RX7, "rowText", "(IZ)V"⟩
def dkwX7_rowText_2 : List UInt8 := [153, 0, 11, 42, 27, 182, 1, 44, 167, 0, 8, 42, 27, 182, 1, 47, 54, 4, 42, 29, 182, 1, 40, 177]
abbrev dktX7_rowText_2 : List UInt8 := dkwX7_rowText_2 ++ []
def dkwX7_rowText_1 : List UInt8 := [167, 0, 4, 3, 28, 160, 0, 7, 4, 167, 0, 4, 3, 62, 29, 154, 0, 7, 2, 167, 0, 20, 28]
abbrev dktX7_rowText_1 : List UInt8 := dkwX7_rowText_1 ++ dktX7_rowText_2
def dkwX7_rowText_0 : List UInt8 := [42, 182, 1, 31, 153, 0, 64, 27, 2, 159, 0, 25, 42, 27, 182, 0, 127, 2, 159, 0, 7, 4]
abbrev dktX7_rowText_0 : List UInt8 := dkwX7_rowText_0 ++ dktX7_rowText_1
theorem dksX7_rowText_0 : cX7_rowText.data.toList.drop 0 = dktX7_rowText_0 := by decide +kernel
theorem dksX7_rowText_1 : cX7_rowText.data.toList.drop 22 = dktX7_rowText_1 := dk_seg dksX7_rowText_0 22 rfl rfl
theorem dksX7_rowText_2 : cX7_rowText.data.toList.drop 45 = dktX7_rowText_2 := dk_seg dksX7_rowText_1 23 rfl rfl
theorem dX7_rowText_0 : decode cX7_rowText 0 = .ok (.aload_n 0, 1) := dk_42 (dk_at dksX7_rowText_0 0 rfl rfl)
theorem dX7_rowText_1 : decode cX7_rowText 1 = .ok (.invokevirtual 287, 3) := dk_182 1 31 (dk_at dksX7_rowText_0 1 rfl rfl)
theorem dX7_rowText_4 : decode cX7_rowText 4 = .ok (.ifCond .eq 64, 3) := dk_153 0 64 (dk_at dksX7_rowText_0 4 rfl rfl)
theorem dX7_rowText_7 : decode cX7_rowText 7 = .ok (.iload_n 1, 1) := dk_27 (dk_at dksX7_rowText_0 7 rfl rfl)
theorem dX7_rowText_8 : decode cX7_rowText 8 = .ok (.iconst (-1), 1) := dk_2 (dk_at dksX7_rowText_0 8 rfl rfl)
theorem dX7_rowText_9 : decode cX7_rowText 9 = .ok (.if_icmp .eq 25, 3) := dk_159 0 25 (dk_at dksX7_rowText_0 9 rfl rfl)
theorem dX7_rowText_12 : decode cX7_rowText 12 = .ok (.aload_n 0, 1) := dk_42 (dk_at dksX7_rowText_0 12 rfl rfl)
theorem dX7_rowText_13 : decode cX7_rowText 13 = .ok (.iload_n 1, 1) := dk_27 (dk_at dksX7_rowText_0 13 rfl rfl)
theorem dX7_rowText_14 : decode cX7_rowText 14 = .ok (.invokevirtual 127, 3) := dk_182 0 127 (dk_at dksX7_rowText_0 14 rfl rfl)
theorem dX7_rowText_17 : decode cX7_rowText 17 = .ok (.iconst (-1), 1) := dk_2 (dk_at dksX7_rowText_0 17 rfl rfl)
theorem dX7_rowText_18 : decode cX7_rowText 18 = .ok (.if_icmp .eq 7, 3) := dk_159 0 7 (dk_at dksX7_rowText_0 18 rfl rfl)
theorem dX7_rowText_21 : decode cX7_rowText 21 = .ok (.iconst 1, 1) := dk_4 (dk_at dksX7_rowText_0 21 rfl rfl)
theorem dX7_rowText_22 : decode cX7_rowText 22 = .ok (.goto 4, 3) := dk_167 0 4 (dk_at dksX7_rowText_1 0 rfl rfl)
theorem dX7_rowText_25 : decode cX7_rowText 25 = .ok (.iconst 0, 1) := dk_3 (dk_at dksX7_rowText_1 3 rfl rfl)
theorem dX7_rowText_26 : decode cX7_rowText 26 = .ok (.iload_n 2, 1) := dk_28 (dk_at dksX7_rowText_1 4 rfl rfl)
theorem dX7_rowText_27 : decode cX7_rowText 27 = .ok (.if_icmp .ne 7, 3) := dk_160 0 7 (dk_at dksX7_rowText_1 5 rfl rfl)
theorem dX7_rowText_30 : decode cX7_rowText 30 = .ok (.iconst 1, 1) := dk_4 (dk_at dksX7_rowText_1 8 rfl rfl)
theorem dX7_rowText_31 : decode cX7_rowText 31 = .ok (.goto 4, 3) := dk_167 0 4 (dk_at dksX7_rowText_1 9 rfl rfl)
theorem dX7_rowText_34 : decode cX7_rowText 34 = .ok (.iconst 0, 1) := dk_3 (dk_at dksX7_rowText_1 12 rfl rfl)
theorem dX7_rowText_35 : decode cX7_rowText 35 = .ok (.istore_n 3, 1) := dk_62 (dk_at dksX7_rowText_1 13 rfl rfl)
theorem dX7_rowText_36 : decode cX7_rowText 36 = .ok (.iload_n 3, 1) := dk_29 (dk_at dksX7_rowText_1 14 rfl rfl)
theorem dX7_rowText_37 : decode cX7_rowText 37 = .ok (.ifCond .ne 7, 3) := dk_154 0 7 (dk_at dksX7_rowText_1 15 rfl rfl)
theorem dX7_rowText_40 : decode cX7_rowText 40 = .ok (.iconst (-1), 1) := dk_2 (dk_at dksX7_rowText_1 18 rfl rfl)
theorem dX7_rowText_41 : decode cX7_rowText 41 = .ok (.goto 20, 3) := dk_167 0 20 (dk_at dksX7_rowText_1 19 rfl rfl)
theorem dX7_rowText_44 : decode cX7_rowText 44 = .ok (.iload_n 2, 1) := dk_28 (dk_at dksX7_rowText_1 22 rfl rfl)
theorem dX7_rowText_45 : decode cX7_rowText 45 = .ok (.ifCond .eq 11, 3) := dk_153 0 11 (dk_at dksX7_rowText_2 0 rfl rfl)
theorem dX7_rowText_48 : decode cX7_rowText 48 = .ok (.aload_n 0, 1) := dk_42 (dk_at dksX7_rowText_2 3 rfl rfl)
theorem dX7_rowText_49 : decode cX7_rowText 49 = .ok (.iload_n 1, 1) := dk_27 (dk_at dksX7_rowText_2 4 rfl rfl)
theorem dX7_rowText_50 : decode cX7_rowText 50 = .ok (.invokevirtual 300, 3) := dk_182 1 44 (dk_at dksX7_rowText_2 5 rfl rfl)
theorem dX7_rowText_53 : decode cX7_rowText 53 = .ok (.goto 8, 3) := dk_167 0 8 (dk_at dksX7_rowText_2 8 rfl rfl)
theorem dX7_rowText_56 : decode cX7_rowText 56 = .ok (.aload_n 0, 1) := dk_42 (dk_at dksX7_rowText_2 11 rfl rfl)
theorem dX7_rowText_57 : decode cX7_rowText 57 = .ok (.iload_n 1, 1) := dk_27 (dk_at dksX7_rowText_2 12 rfl rfl)
theorem dX7_rowText_58 : decode cX7_rowText 58 = .ok (.invokevirtual 303, 3) := dk_182 1 47 (dk_at dksX7_rowText_2 13 rfl rfl)
theorem dX7_rowText_61 : decode cX7_rowText 61 = .ok (.istore 4, 2) := dk_54 4 (dk_at dksX7_rowText_2 16 rfl rfl)
theorem dX7_rowText_63 : decode cX7_rowText 63 = .ok (.aload_n 0, 1) := dk_42 (dk_at dksX7_rowText_2 18 rfl rfl)
theorem dX7_rowText_64 : decode cX7_rowText 64 = .ok (.iload_n 3, 1) := dk_29 (dk_at dksX7_rowText_2 19 rfl rfl)
theorem dX7_rowText_65 : decode cX7_rowText 65 = .ok (.invokevirtual 296, 3) := dk_182 1 40 (dk_at dksX7_rowText_2 20 rfl rfl)
theorem dX7_rowText_68 : decode cX7_rowText 68 = .ok (.return_, 1) := dk_177 (dk_at dksX7_rowText_2 23 rfl rfl)
abbrev iX7_rowText : xM := (yX7_rowText, cX7_rowText, 5, none, [])
theorem mX7_rowText : xOkM iX7_rowText := ⟨by decide +kernel, by decide, q3818, q175⟩
abbrev cX7_leaves : ByteArray := prog_15_method_35_code
def yX7_leaves : MethodName := ⟨RX7, "leaves", "(I)I"⟩
def dkwX7_leaves_2 : List UInt8 := [180, 0, 7, 16, 14, 92, 46, 4, 100, 79, 42, 180, 0, 7, 16, 14, 46, 172]
abbrev dktX7_leaves_2 : List UInt8 := dkwX7_leaves_2 ++ []
def dkwX7_leaves_1 : List UInt8 := [16, 20, 28, 96, 42, 180, 0, 7, 16, 20, 28, 96, 4, 96, 46, 79, 132, 2, 1, 167, 255, 220, 42]
abbrev dktX7_leaves_1 : List UInt8 := dkwX7_leaves_1 ++ dktX7_leaves_2
def dkwX7_leaves_0 : List UInt8 := [42, 27, 182, 0, 127, 61, 28, 42, 180, 0, 7, 16, 14, 46, 4, 100, 162, 0, 29, 42, 180, 0, 7]
abbrev dktX7_leaves_0 : List UInt8 := dkwX7_leaves_0 ++ dktX7_leaves_1
theorem dksX7_leaves_0 : cX7_leaves.data.toList.drop 0 = dktX7_leaves_0 := by decide +kernel
theorem dksX7_leaves_1 : cX7_leaves.data.toList.drop 23 = dktX7_leaves_1 := dk_seg dksX7_leaves_0 23 rfl rfl
theorem dksX7_leaves_2 : cX7_leaves.data.toList.drop 46 = dktX7_leaves_2 := dk_seg dksX7_leaves_1 23 rfl rfl
theorem dX7_leaves_0 : decode cX7_leaves 0 = .ok (.aload_n 0, 1) := dk_42 (dk_at dksX7_leaves_0 0 rfl rfl)
theorem dX7_leaves_1 : decode cX7_leaves 1 = .ok (.iload_n 1, 1) := dk_27 (dk_at dksX7_leaves_0 1 rfl rfl)
theorem dX7_leaves_2 : decode cX7_leaves 2 = .ok (.invokevirtual 127, 3) := dk_182 0 127 (dk_at dksX7_leaves_0 2 rfl rfl)
theorem dX7_leaves_5 : decode cX7_leaves 5 = .ok (.istore_n 2, 1) := dk_61 (dk_at dksX7_leaves_0 5 rfl rfl)
theorem dX7_leaves_6 : decode cX7_leaves 6 = .ok (.iload_n 2, 1) := dk_28 (dk_at dksX7_leaves_0 6 rfl rfl)
theorem dX7_leaves_7 : decode cX7_leaves 7 = .ok (.aload_n 0, 1) := dk_42 (dk_at dksX7_leaves_0 7 rfl rfl)
theorem dX7_leaves_8 : decode cX7_leaves 8 = .ok (.getfield 7, 3) := dk_180 0 7 (dk_at dksX7_leaves_0 8 rfl rfl)
theorem dX7_leaves_11 : decode cX7_leaves 11 = .ok (.bipush 14, 2) := dk_16 14 (dk_at dksX7_leaves_0 11 rfl rfl)
theorem dX7_leaves_13 : decode cX7_leaves 13 = .ok (.iaload, 1) := dk_46 (dk_at dksX7_leaves_0 13 rfl rfl)
theorem dX7_leaves_14 : decode cX7_leaves 14 = .ok (.iconst 1, 1) := dk_4 (dk_at dksX7_leaves_0 14 rfl rfl)
theorem dX7_leaves_15 : decode cX7_leaves 15 = .ok (.isub, 1) := dk_100 (dk_at dksX7_leaves_0 15 rfl rfl)
theorem dX7_leaves_16 : decode cX7_leaves 16 = .ok (.if_icmp .ge 29, 3) := dk_162 0 29 (dk_at dksX7_leaves_0 16 rfl rfl)
theorem dX7_leaves_19 : decode cX7_leaves 19 = .ok (.aload_n 0, 1) := dk_42 (dk_at dksX7_leaves_0 19 rfl rfl)
theorem dX7_leaves_20 : decode cX7_leaves 20 = .ok (.getfield 7, 3) := dk_180 0 7 (dk_at dksX7_leaves_0 20 rfl rfl)
theorem dX7_leaves_23 : decode cX7_leaves 23 = .ok (.bipush 20, 2) := dk_16 20 (dk_at dksX7_leaves_1 0 rfl rfl)
theorem dX7_leaves_25 : decode cX7_leaves 25 = .ok (.iload_n 2, 1) := dk_28 (dk_at dksX7_leaves_1 2 rfl rfl)
theorem dX7_leaves_26 : decode cX7_leaves 26 = .ok (.iadd, 1) := dk_96 (dk_at dksX7_leaves_1 3 rfl rfl)
theorem dX7_leaves_27 : decode cX7_leaves 27 = .ok (.aload_n 0, 1) := dk_42 (dk_at dksX7_leaves_1 4 rfl rfl)
theorem dX7_leaves_28 : decode cX7_leaves 28 = .ok (.getfield 7, 3) := dk_180 0 7 (dk_at dksX7_leaves_1 5 rfl rfl)
theorem dX7_leaves_31 : decode cX7_leaves 31 = .ok (.bipush 20, 2) := dk_16 20 (dk_at dksX7_leaves_1 8 rfl rfl)
theorem dX7_leaves_33 : decode cX7_leaves 33 = .ok (.iload_n 2, 1) := dk_28 (dk_at dksX7_leaves_1 10 rfl rfl)
theorem dX7_leaves_34 : decode cX7_leaves 34 = .ok (.iadd, 1) := dk_96 (dk_at dksX7_leaves_1 11 rfl rfl)
theorem dX7_leaves_35 : decode cX7_leaves 35 = .ok (.iconst 1, 1) := dk_4 (dk_at dksX7_leaves_1 12 rfl rfl)
theorem dX7_leaves_36 : decode cX7_leaves 36 = .ok (.iadd, 1) := dk_96 (dk_at dksX7_leaves_1 13 rfl rfl)
theorem dX7_leaves_37 : decode cX7_leaves 37 = .ok (.iaload, 1) := dk_46 (dk_at dksX7_leaves_1 14 rfl rfl)
theorem dX7_leaves_38 : decode cX7_leaves 38 = .ok (.iastore, 1) := dk_79 (dk_at dksX7_leaves_1 15 rfl rfl)
theorem dX7_leaves_39 : decode cX7_leaves 39 = .ok (.iinc 2 1, 3) := dk_132 2 1 (dk_at dksX7_leaves_1 16 rfl rfl)
theorem dX7_leaves_42 : decode cX7_leaves 42 = .ok (.goto (-36), 3) := dk_167 255 220 (dk_at dksX7_leaves_1 19 rfl rfl)
theorem dX7_leaves_45 : decode cX7_leaves 45 = .ok (.aload_n 0, 1) := dk_42 (dk_at dksX7_leaves_1 22 rfl rfl)
theorem dX7_leaves_46 : decode cX7_leaves 46 = .ok (.getfield 7, 3) := dk_180 0 7 (dk_at dksX7_leaves_2 0 rfl rfl)
theorem dX7_leaves_49 : decode cX7_leaves 49 = .ok (.bipush 14, 2) := dk_16 14 (dk_at dksX7_leaves_2 3 rfl rfl)
theorem dX7_leaves_51 : decode cX7_leaves 51 = .ok (.dup2, 1) := dk_92 (dk_at dksX7_leaves_2 5 rfl rfl)
theorem dX7_leaves_52 : decode cX7_leaves 52 = .ok (.iaload, 1) := dk_46 (dk_at dksX7_leaves_2 6 rfl rfl)
theorem dX7_leaves_53 : decode cX7_leaves 53 = .ok (.iconst 1, 1) := dk_4 (dk_at dksX7_leaves_2 7 rfl rfl)
theorem dX7_leaves_54 : decode cX7_leaves 54 = .ok (.isub, 1) := dk_100 (dk_at dksX7_leaves_2 8 rfl rfl)
theorem dX7_leaves_55 : decode cX7_leaves 55 = .ok (.iastore, 1) := dk_79 (dk_at dksX7_leaves_2 9 rfl rfl)
theorem dX7_leaves_56 : decode cX7_leaves 56 = .ok (.aload_n 0, 1) := dk_42 (dk_at dksX7_leaves_2 10 rfl rfl)
theorem dX7_leaves_57 : decode cX7_leaves 57 = .ok (.getfield 7, 3) := dk_180 0 7 (dk_at dksX7_leaves_2 11 rfl rfl)
theorem dX7_leaves_60 : decode cX7_leaves 60 = .ok (.bipush 14, 2) := dk_16 14 (dk_at dksX7_leaves_2 14 rfl rfl)
theorem dX7_leaves_62 : decode cX7_leaves 62 = .ok (.iaload, 1) := dk_46 (dk_at dksX7_leaves_2 16 rfl rfl)
theorem dX7_leaves_63 : decode cX7_leaves 63 = .ok (.ireturn, 1) := dk_172 (dk_at dksX7_leaves_2 17 rfl rfl)
abbrev iX7_leaves : xM := (yX7_leaves, cX7_leaves, 3, (some .int), [])
theorem mX7_leaves : xOkM iX7_leaves := ⟨by decide +kernel, by decide, q3822, q175⟩
abbrev cX7_joins : ByteArray := prog_15_method_36_code
def yX7_joins : MethodName := ⟨RX7, "joins", "(I)I"⟩
def dkwX7_joins_1 : List UInt8 := [4, 96, 79, 42, 180, 0, 7, 16, 14, 46, 4, 100, 172]
abbrev dktX7_joins_1 : List UInt8 := dkwX7_joins_1 ++ []
def dkwX7_joins_0 : List UInt8 := [42, 180, 0, 7, 16, 20, 42, 180, 0, 7, 16, 14, 46, 96, 27, 79, 42, 180, 0, 7, 16, 14, 92, 46]
abbrev dktX7_joins_0 : List UInt8 := dkwX7_joins_0 ++ dktX7_joins_1
theorem dksX7_joins_0 : cX7_joins.data.toList.drop 0 = dktX7_joins_0 := by decide +kernel
theorem dksX7_joins_1 : cX7_joins.data.toList.drop 24 = dktX7_joins_1 := dk_seg dksX7_joins_0 24 rfl rfl
theorem dX7_joins_0 : decode cX7_joins 0 = .ok (.aload_n 0, 1) := dk_42 (dk_at dksX7_joins_0 0 rfl rfl)
theorem dX7_joins_1 : decode cX7_joins 1 = .ok (.getfield 7, 3) := dk_180 0 7 (dk_at dksX7_joins_0 1 rfl rfl)
theorem dX7_joins_4 : decode cX7_joins 4 = .ok (.bipush 20, 2) := dk_16 20 (dk_at dksX7_joins_0 4 rfl rfl)
theorem dX7_joins_6 : decode cX7_joins 6 = .ok (.aload_n 0, 1) := dk_42 (dk_at dksX7_joins_0 6 rfl rfl)
theorem dX7_joins_7 : decode cX7_joins 7 = .ok (.getfield 7, 3) := dk_180 0 7 (dk_at dksX7_joins_0 7 rfl rfl)
theorem dX7_joins_10 : decode cX7_joins 10 = .ok (.bipush 14, 2) := dk_16 14 (dk_at dksX7_joins_0 10 rfl rfl)
theorem dX7_joins_12 : decode cX7_joins 12 = .ok (.iaload, 1) := dk_46 (dk_at dksX7_joins_0 12 rfl rfl)
theorem dX7_joins_13 : decode cX7_joins 13 = .ok (.iadd, 1) := dk_96 (dk_at dksX7_joins_0 13 rfl rfl)
theorem dX7_joins_14 : decode cX7_joins 14 = .ok (.iload_n 1, 1) := dk_27 (dk_at dksX7_joins_0 14 rfl rfl)
theorem dX7_joins_15 : decode cX7_joins 15 = .ok (.iastore, 1) := dk_79 (dk_at dksX7_joins_0 15 rfl rfl)
theorem dX7_joins_16 : decode cX7_joins 16 = .ok (.aload_n 0, 1) := dk_42 (dk_at dksX7_joins_0 16 rfl rfl)
theorem dX7_joins_17 : decode cX7_joins 17 = .ok (.getfield 7, 3) := dk_180 0 7 (dk_at dksX7_joins_0 17 rfl rfl)
theorem dX7_joins_20 : decode cX7_joins 20 = .ok (.bipush 14, 2) := dk_16 14 (dk_at dksX7_joins_0 20 rfl rfl)
theorem dX7_joins_22 : decode cX7_joins 22 = .ok (.dup2, 1) := dk_92 (dk_at dksX7_joins_0 22 rfl rfl)
theorem dX7_joins_23 : decode cX7_joins 23 = .ok (.iaload, 1) := dk_46 (dk_at dksX7_joins_0 23 rfl rfl)
theorem dX7_joins_24 : decode cX7_joins 24 = .ok (.iconst 1, 1) := dk_4 (dk_at dksX7_joins_1 0 rfl rfl)
theorem dX7_joins_25 : decode cX7_joins 25 = .ok (.iadd, 1) := dk_96 (dk_at dksX7_joins_1 1 rfl rfl)
theorem dX7_joins_26 : decode cX7_joins 26 = .ok (.iastore, 1) := dk_79 (dk_at dksX7_joins_1 2 rfl rfl)
theorem dX7_joins_27 : decode cX7_joins 27 = .ok (.aload_n 0, 1) := dk_42 (dk_at dksX7_joins_1 3 rfl rfl)
theorem dX7_joins_28 : decode cX7_joins 28 = .ok (.getfield 7, 3) := dk_180 0 7 (dk_at dksX7_joins_1 4 rfl rfl)
theorem dX7_joins_31 : decode cX7_joins 31 = .ok (.bipush 14, 2) := dk_16 14 (dk_at dksX7_joins_1 7 rfl rfl)
theorem dX7_joins_33 : decode cX7_joins 33 = .ok (.iaload, 1) := dk_46 (dk_at dksX7_joins_1 9 rfl rfl)
theorem dX7_joins_34 : decode cX7_joins 34 = .ok (.iconst 1, 1) := dk_4 (dk_at dksX7_joins_1 10 rfl rfl)
theorem dX7_joins_35 : decode cX7_joins 35 = .ok (.isub, 1) := dk_100 (dk_at dksX7_joins_1 11 rfl rfl)
theorem dX7_joins_36 : decode cX7_joins 36 = .ok (.ireturn, 1) := dk_172 (dk_at dksX7_joins_1 12 rfl rfl)
abbrev iX7_joins : xM := (yX7_joins, cX7_joins, 2, (some .int), [])
theorem mX7_joins : xOkM iX7_joins := ⟨by decide +kernel, by decide, q3826, q175⟩
abbrev cX7_stringOrder : ByteArray := prog_15_method_68_code
def yX7_stringOrder : MethodName := ⟨RX7, "stringOrder", "(JI)V"⟩
def dkwX7_stringOrder_6 : List UInt8 := [182, 1, 62, 167, 0, 10, 42, 29, 21, 4, 182, 1, 65, 54, 7, 42, 21, 6, 182, 1, 40, 177]
abbrev dktX7_stringOrder_6 : List UInt8 := dkwX7_stringOrder_6 ++ []
def dkwX7_stringOrder_5 : List UInt8 := [29, 21, 4, 21, 5, 182, 1, 59, 167, 0, 28, 31, 20, 1, 8, 148, 154, 0, 13, 42, 29, 21, 4]
abbrev dktX7_stringOrder_5 : List UInt8 := dkwX7_stringOrder_5 ++ dktX7_stringOrder_6
def dkwX7_stringOrder_4 : List UInt8 := [167, 0, 4, 3, 54, 6, 21, 6, 154, 0, 7, 2, 167, 0, 48, 31, 20, 1, 6, 148, 154, 0, 15, 42]
abbrev dktX7_stringOrder_4 : List UInt8 := dkwX7_stringOrder_4 ++ dktX7_stringOrder_5
def dkwX7_stringOrder_3 : List UInt8 := [42, 29, 21, 4, 182, 1, 53, 153, 0, 20, 167, 0, 13, 42, 29, 21, 4, 182, 1, 56, 153, 0, 7, 4]
abbrev dktX7_stringOrder_3 : List UInt8 := dkwX7_stringOrder_3 ++ dktX7_stringOrder_4
def dkwX7_stringOrder_2 : List UInt8 := [154, 0, 16, 42, 29, 21, 4, 182, 0, 85, 154, 0, 41, 167, 0, 34, 31, 20, 1, 8, 148, 154, 0, 16]
abbrev dktX7_stringOrder_2 : List UInt8 := dkwX7_stringOrder_2 ++ dktX7_stringOrder_3
def dkwX7_stringOrder_1 : List UInt8 := [167, 0, 4, 3, 54, 5, 42, 182, 1, 31, 154, 0, 4, 177, 29, 2, 159, 0, 59, 31, 20, 1, 6, 148]
abbrev dktX7_stringOrder_1 : List UInt8 := dkwX7_stringOrder_1 ++ dktX7_stringOrder_2
def dkwX7_stringOrder_0 : List UInt8 := [42, 182, 1, 50, 54, 4, 31, 20, 1, 6, 148, 154, 0, 14, 42, 4, 17, 1, 44, 182, 0, 221]
abbrev dktX7_stringOrder_0 : List UInt8 := dkwX7_stringOrder_0 ++ dktX7_stringOrder_1
theorem dksX7_stringOrder_0 : cX7_stringOrder.data.toList.drop 0 = dktX7_stringOrder_0 := by decide +kernel
theorem dksX7_stringOrder_1 : cX7_stringOrder.data.toList.drop 22 = dktX7_stringOrder_1 := dk_seg dksX7_stringOrder_0 22 rfl rfl
theorem dksX7_stringOrder_2 : cX7_stringOrder.data.toList.drop 46 = dktX7_stringOrder_2 := dk_seg dksX7_stringOrder_1 24 rfl rfl
theorem dksX7_stringOrder_3 : cX7_stringOrder.data.toList.drop 70 = dktX7_stringOrder_3 := dk_seg dksX7_stringOrder_2 24 rfl rfl
theorem dksX7_stringOrder_4 : cX7_stringOrder.data.toList.drop 94 = dktX7_stringOrder_4 := dk_seg dksX7_stringOrder_3 24 rfl rfl
theorem dksX7_stringOrder_5 : cX7_stringOrder.data.toList.drop 118 = dktX7_stringOrder_5 := dk_seg dksX7_stringOrder_4 24 rfl rfl
theorem dksX7_stringOrder_6 : cX7_stringOrder.data.toList.drop 141 = dktX7_stringOrder_6 := dk_seg dksX7_stringOrder_5 23 rfl rfl
theorem dX7_stringOrder_0 : decode cX7_stringOrder 0 = .ok (.aload_n 0, 1) := dk_42 (dk_at dksX7_stringOrder_0 0 rfl rfl)
theorem dX7_stringOrder_1 : decode cX7_stringOrder 1 = .ok (.invokevirtual 306, 3) := dk_182 1 50 (dk_at dksX7_stringOrder_0 1 rfl rfl)
theorem dX7_stringOrder_4 : decode cX7_stringOrder 4 = .ok (.istore 4, 2) := dk_54 4 (dk_at dksX7_stringOrder_0 4 rfl rfl)
theorem dX7_stringOrder_6 : decode cX7_stringOrder 6 = .ok (.lload_n 1, 1) := dk_31 (dk_at dksX7_stringOrder_0 6 rfl rfl)
theorem dX7_stringOrder_7 : decode cX7_stringOrder 7 = .ok (.ldc2_w 262, 3) := dk_20 1 6 (dk_at dksX7_stringOrder_0 7 rfl rfl)
theorem dX7_stringOrder_10 : decode cX7_stringOrder 10 = .ok (.lcmp, 1) := dk_148 (dk_at dksX7_stringOrder_0 10 rfl rfl)
theorem dX7_stringOrder_11 : decode cX7_stringOrder 11 = .ok (.ifCond .ne 14, 3) := dk_154 0 14 (dk_at dksX7_stringOrder_0 11 rfl rfl)
theorem dX7_stringOrder_14 : decode cX7_stringOrder 14 = .ok (.aload_n 0, 1) := dk_42 (dk_at dksX7_stringOrder_0 14 rfl rfl)
theorem dX7_stringOrder_15 : decode cX7_stringOrder 15 = .ok (.iconst 1, 1) := dk_4 (dk_at dksX7_stringOrder_0 15 rfl rfl)
theorem dX7_stringOrder_16 : decode cX7_stringOrder 16 = .ok (.sipush 300, 3) := dk_17 1 44 (dk_at dksX7_stringOrder_0 16 rfl rfl)
theorem dX7_stringOrder_19 : decode cX7_stringOrder 19 = .ok (.invokevirtual 221, 3) := dk_182 0 221 (dk_at dksX7_stringOrder_0 19 rfl rfl)
theorem dX7_stringOrder_22 : decode cX7_stringOrder 22 = .ok (.goto 4, 3) := dk_167 0 4 (dk_at dksX7_stringOrder_1 0 rfl rfl)
theorem dX7_stringOrder_25 : decode cX7_stringOrder 25 = .ok (.iconst 0, 1) := dk_3 (dk_at dksX7_stringOrder_1 3 rfl rfl)
theorem dX7_stringOrder_26 : decode cX7_stringOrder 26 = .ok (.istore 5, 2) := dk_54 5 (dk_at dksX7_stringOrder_1 4 rfl rfl)
theorem dX7_stringOrder_28 : decode cX7_stringOrder 28 = .ok (.aload_n 0, 1) := dk_42 (dk_at dksX7_stringOrder_1 6 rfl rfl)
theorem dX7_stringOrder_29 : decode cX7_stringOrder 29 = .ok (.invokevirtual 287, 3) := dk_182 1 31 (dk_at dksX7_stringOrder_1 7 rfl rfl)
theorem dX7_stringOrder_32 : decode cX7_stringOrder 32 = .ok (.ifCond .ne 4, 3) := dk_154 0 4 (dk_at dksX7_stringOrder_1 10 rfl rfl)
theorem dX7_stringOrder_35 : decode cX7_stringOrder 35 = .ok (.return_, 1) := dk_177 (dk_at dksX7_stringOrder_1 13 rfl rfl)
theorem dX7_stringOrder_36 : decode cX7_stringOrder 36 = .ok (.iload_n 3, 1) := dk_29 (dk_at dksX7_stringOrder_1 14 rfl rfl)
theorem dX7_stringOrder_37 : decode cX7_stringOrder 37 = .ok (.iconst (-1), 1) := dk_2 (dk_at dksX7_stringOrder_1 15 rfl rfl)
theorem dX7_stringOrder_38 : decode cX7_stringOrder 38 = .ok (.if_icmp .eq 59, 3) := dk_159 0 59 (dk_at dksX7_stringOrder_1 16 rfl rfl)
theorem dX7_stringOrder_41 : decode cX7_stringOrder 41 = .ok (.lload_n 1, 1) := dk_31 (dk_at dksX7_stringOrder_1 19 rfl rfl)
theorem dX7_stringOrder_42 : decode cX7_stringOrder 42 = .ok (.ldc2_w 262, 3) := dk_20 1 6 (dk_at dksX7_stringOrder_1 20 rfl rfl)
theorem dX7_stringOrder_45 : decode cX7_stringOrder 45 = .ok (.lcmp, 1) := dk_148 (dk_at dksX7_stringOrder_1 23 rfl rfl)
theorem dX7_stringOrder_46 : decode cX7_stringOrder 46 = .ok (.ifCond .ne 16, 3) := dk_154 0 16 (dk_at dksX7_stringOrder_2 0 rfl rfl)
theorem dX7_stringOrder_49 : decode cX7_stringOrder 49 = .ok (.aload_n 0, 1) := dk_42 (dk_at dksX7_stringOrder_2 3 rfl rfl)
theorem dX7_stringOrder_50 : decode cX7_stringOrder 50 = .ok (.iload_n 3, 1) := dk_29 (dk_at dksX7_stringOrder_2 4 rfl rfl)
theorem dX7_stringOrder_51 : decode cX7_stringOrder 51 = .ok (.iload 4, 2) := dk_21 4 (dk_at dksX7_stringOrder_2 5 rfl rfl)
theorem dX7_stringOrder_53 : decode cX7_stringOrder 53 = .ok (.invokevirtual 85, 3) := dk_182 0 85 (dk_at dksX7_stringOrder_2 7 rfl rfl)
theorem dX7_stringOrder_56 : decode cX7_stringOrder 56 = .ok (.ifCond .ne 41, 3) := dk_154 0 41 (dk_at dksX7_stringOrder_2 10 rfl rfl)
theorem dX7_stringOrder_59 : decode cX7_stringOrder 59 = .ok (.goto 34, 3) := dk_167 0 34 (dk_at dksX7_stringOrder_2 13 rfl rfl)
theorem dX7_stringOrder_62 : decode cX7_stringOrder 62 = .ok (.lload_n 1, 1) := dk_31 (dk_at dksX7_stringOrder_2 16 rfl rfl)
theorem dX7_stringOrder_63 : decode cX7_stringOrder 63 = .ok (.ldc2_w 264, 3) := dk_20 1 8 (dk_at dksX7_stringOrder_2 17 rfl rfl)
theorem dX7_stringOrder_66 : decode cX7_stringOrder 66 = .ok (.lcmp, 1) := dk_148 (dk_at dksX7_stringOrder_2 20 rfl rfl)
theorem dX7_stringOrder_67 : decode cX7_stringOrder 67 = .ok (.ifCond .ne 16, 3) := dk_154 0 16 (dk_at dksX7_stringOrder_2 21 rfl rfl)
theorem dX7_stringOrder_70 : decode cX7_stringOrder 70 = .ok (.aload_n 0, 1) := dk_42 (dk_at dksX7_stringOrder_3 0 rfl rfl)
theorem dX7_stringOrder_71 : decode cX7_stringOrder 71 = .ok (.iload_n 3, 1) := dk_29 (dk_at dksX7_stringOrder_3 1 rfl rfl)
theorem dX7_stringOrder_72 : decode cX7_stringOrder 72 = .ok (.iload 4, 2) := dk_21 4 (dk_at dksX7_stringOrder_3 2 rfl rfl)
theorem dX7_stringOrder_74 : decode cX7_stringOrder 74 = .ok (.invokevirtual 309, 3) := dk_182 1 53 (dk_at dksX7_stringOrder_3 4 rfl rfl)
theorem dX7_stringOrder_77 : decode cX7_stringOrder 77 = .ok (.ifCond .eq 20, 3) := dk_153 0 20 (dk_at dksX7_stringOrder_3 7 rfl rfl)
theorem dX7_stringOrder_80 : decode cX7_stringOrder 80 = .ok (.goto 13, 3) := dk_167 0 13 (dk_at dksX7_stringOrder_3 10 rfl rfl)
theorem dX7_stringOrder_83 : decode cX7_stringOrder 83 = .ok (.aload_n 0, 1) := dk_42 (dk_at dksX7_stringOrder_3 13 rfl rfl)
theorem dX7_stringOrder_84 : decode cX7_stringOrder 84 = .ok (.iload_n 3, 1) := dk_29 (dk_at dksX7_stringOrder_3 14 rfl rfl)
theorem dX7_stringOrder_85 : decode cX7_stringOrder 85 = .ok (.iload 4, 2) := dk_21 4 (dk_at dksX7_stringOrder_3 15 rfl rfl)
theorem dX7_stringOrder_87 : decode cX7_stringOrder 87 = .ok (.invokevirtual 312, 3) := dk_182 1 56 (dk_at dksX7_stringOrder_3 17 rfl rfl)
theorem dX7_stringOrder_90 : decode cX7_stringOrder 90 = .ok (.ifCond .eq 7, 3) := dk_153 0 7 (dk_at dksX7_stringOrder_3 20 rfl rfl)
theorem dX7_stringOrder_93 : decode cX7_stringOrder 93 = .ok (.iconst 1, 1) := dk_4 (dk_at dksX7_stringOrder_3 23 rfl rfl)
theorem dX7_stringOrder_94 : decode cX7_stringOrder 94 = .ok (.goto 4, 3) := dk_167 0 4 (dk_at dksX7_stringOrder_4 0 rfl rfl)
theorem dX7_stringOrder_97 : decode cX7_stringOrder 97 = .ok (.iconst 0, 1) := dk_3 (dk_at dksX7_stringOrder_4 3 rfl rfl)
theorem dX7_stringOrder_98 : decode cX7_stringOrder 98 = .ok (.istore 6, 2) := dk_54 6 (dk_at dksX7_stringOrder_4 4 rfl rfl)
theorem dX7_stringOrder_100 : decode cX7_stringOrder 100 = .ok (.iload 6, 2) := dk_21 6 (dk_at dksX7_stringOrder_4 6 rfl rfl)
theorem dX7_stringOrder_102 : decode cX7_stringOrder 102 = .ok (.ifCond .ne 7, 3) := dk_154 0 7 (dk_at dksX7_stringOrder_4 8 rfl rfl)
theorem dX7_stringOrder_105 : decode cX7_stringOrder 105 = .ok (.iconst (-1), 1) := dk_2 (dk_at dksX7_stringOrder_4 11 rfl rfl)
theorem dX7_stringOrder_106 : decode cX7_stringOrder 106 = .ok (.goto 48, 3) := dk_167 0 48 (dk_at dksX7_stringOrder_4 12 rfl rfl)
theorem dX7_stringOrder_109 : decode cX7_stringOrder 109 = .ok (.lload_n 1, 1) := dk_31 (dk_at dksX7_stringOrder_4 15 rfl rfl)
theorem dX7_stringOrder_110 : decode cX7_stringOrder 110 = .ok (.ldc2_w 262, 3) := dk_20 1 6 (dk_at dksX7_stringOrder_4 16 rfl rfl)
theorem dX7_stringOrder_113 : decode cX7_stringOrder 113 = .ok (.lcmp, 1) := dk_148 (dk_at dksX7_stringOrder_4 19 rfl rfl)
theorem dX7_stringOrder_114 : decode cX7_stringOrder 114 = .ok (.ifCond .ne 15, 3) := dk_154 0 15 (dk_at dksX7_stringOrder_4 20 rfl rfl)
theorem dX7_stringOrder_117 : decode cX7_stringOrder 117 = .ok (.aload_n 0, 1) := dk_42 (dk_at dksX7_stringOrder_4 23 rfl rfl)
theorem dX7_stringOrder_118 : decode cX7_stringOrder 118 = .ok (.iload_n 3, 1) := dk_29 (dk_at dksX7_stringOrder_5 0 rfl rfl)
theorem dX7_stringOrder_119 : decode cX7_stringOrder 119 = .ok (.iload 4, 2) := dk_21 4 (dk_at dksX7_stringOrder_5 1 rfl rfl)
theorem dX7_stringOrder_121 : decode cX7_stringOrder 121 = .ok (.iload 5, 2) := dk_21 5 (dk_at dksX7_stringOrder_5 3 rfl rfl)
theorem dX7_stringOrder_123 : decode cX7_stringOrder 123 = .ok (.invokevirtual 315, 3) := dk_182 1 59 (dk_at dksX7_stringOrder_5 5 rfl rfl)
theorem dX7_stringOrder_126 : decode cX7_stringOrder 126 = .ok (.goto 28, 3) := dk_167 0 28 (dk_at dksX7_stringOrder_5 8 rfl rfl)
theorem dX7_stringOrder_129 : decode cX7_stringOrder 129 = .ok (.lload_n 1, 1) := dk_31 (dk_at dksX7_stringOrder_5 11 rfl rfl)
theorem dX7_stringOrder_130 : decode cX7_stringOrder 130 = .ok (.ldc2_w 264, 3) := dk_20 1 8 (dk_at dksX7_stringOrder_5 12 rfl rfl)
theorem dX7_stringOrder_133 : decode cX7_stringOrder 133 = .ok (.lcmp, 1) := dk_148 (dk_at dksX7_stringOrder_5 15 rfl rfl)
theorem dX7_stringOrder_134 : decode cX7_stringOrder 134 = .ok (.ifCond .ne 13, 3) := dk_154 0 13 (dk_at dksX7_stringOrder_5 16 rfl rfl)
theorem dX7_stringOrder_137 : decode cX7_stringOrder 137 = .ok (.aload_n 0, 1) := dk_42 (dk_at dksX7_stringOrder_5 19 rfl rfl)
theorem dX7_stringOrder_138 : decode cX7_stringOrder 138 = .ok (.iload_n 3, 1) := dk_29 (dk_at dksX7_stringOrder_5 20 rfl rfl)
theorem dX7_stringOrder_139 : decode cX7_stringOrder 139 = .ok (.iload 4, 2) := dk_21 4 (dk_at dksX7_stringOrder_5 21 rfl rfl)
theorem dX7_stringOrder_141 : decode cX7_stringOrder 141 = .ok (.invokevirtual 318, 3) := dk_182 1 62 (dk_at dksX7_stringOrder_6 0 rfl rfl)
theorem dX7_stringOrder_144 : decode cX7_stringOrder 144 = .ok (.goto 10, 3) := dk_167 0 10 (dk_at dksX7_stringOrder_6 3 rfl rfl)
theorem dX7_stringOrder_147 : decode cX7_stringOrder 147 = .ok (.aload_n 0, 1) := dk_42 (dk_at dksX7_stringOrder_6 6 rfl rfl)
theorem dX7_stringOrder_148 : decode cX7_stringOrder 148 = .ok (.iload_n 3, 1) := dk_29 (dk_at dksX7_stringOrder_6 7 rfl rfl)
theorem dX7_stringOrder_149 : decode cX7_stringOrder 149 = .ok (.iload 4, 2) := dk_21 4 (dk_at dksX7_stringOrder_6 8 rfl rfl)
theorem dX7_stringOrder_151 : decode cX7_stringOrder 151 = .ok (.invokevirtual 321, 3) := dk_182 1 65 (dk_at dksX7_stringOrder_6 10 rfl rfl)
theorem dX7_stringOrder_154 : decode cX7_stringOrder 154 = .ok (.istore 7, 2) := dk_54 7 (dk_at dksX7_stringOrder_6 13 rfl rfl)
theorem dX7_stringOrder_156 : decode cX7_stringOrder 156 = .ok (.aload_n 0, 1) := dk_42 (dk_at dksX7_stringOrder_6 15 rfl rfl)
theorem dX7_stringOrder_157 : decode cX7_stringOrder 157 = .ok (.iload 6, 2) := dk_21 6 (dk_at dksX7_stringOrder_6 16 rfl rfl)
theorem dX7_stringOrder_159 : decode cX7_stringOrder 159 = .ok (.invokevirtual 296, 3) := dk_182 1 40 (dk_at dksX7_stringOrder_6 18 rfl rfl)
theorem dX7_stringOrder_162 : decode cX7_stringOrder 162 = .ok (.return_, 1) := dk_177 (dk_at dksX7_stringOrder_6 21 rfl rfl)
abbrev iX7_stringOrder : xM := (yX7_stringOrder, cX7_stringOrder, 8, none, [])
theorem mX7_stringOrder : xOkM iX7_stringOrder := ⟨by decide +kernel, by decide, q3830, q175⟩
abbrev cX7_stringText : ByteArray := prog_15_method_65_code
def yX7_stringText : MethodName := ⟨RX7, "stringText", "()I"⟩
def dkwX7_stringText_2 : List UInt8 := [182, 0, 201, 42, 182, 0, 205, 42, 182, 0, 215, 153, 0, 7, 27, 167, 0, 4, 3, 172]
abbrev dktX7_stringText_2 : List UInt8 := dkwX7_stringText_2 ++ []
def dkwX7_stringText_1 : List UInt8 := [167, 0, 4, 27, 60, 132, 2, 1, 167, 255, 229, 42, 27, 2, 159, 0, 7, 4, 167, 0, 4, 3, 4]
abbrev dktX7_stringText_1 : List UInt8 := dkwX7_stringText_1 ++ dktX7_stringText_2
def dkwX7_stringText_0 : List UInt8 := [2, 60, 3, 61, 28, 7, 162, 0, 28, 42, 42, 180, 0, 38, 28, 47, 182, 0, 226, 153, 0, 7, 28]
abbrev dktX7_stringText_0 : List UInt8 := dkwX7_stringText_0 ++ dktX7_stringText_1
theorem dksX7_stringText_0 : cX7_stringText.data.toList.drop 0 = dktX7_stringText_0 := by decide +kernel
theorem dksX7_stringText_1 : cX7_stringText.data.toList.drop 23 = dktX7_stringText_1 := dk_seg dksX7_stringText_0 23 rfl rfl
theorem dksX7_stringText_2 : cX7_stringText.data.toList.drop 46 = dktX7_stringText_2 := dk_seg dksX7_stringText_1 23 rfl rfl
theorem dX7_stringText_0 : decode cX7_stringText 0 = .ok (.iconst (-1), 1) := dk_2 (dk_at dksX7_stringText_0 0 rfl rfl)
theorem dX7_stringText_1 : decode cX7_stringText 1 = .ok (.istore_n 1, 1) := dk_60 (dk_at dksX7_stringText_0 1 rfl rfl)
theorem dX7_stringText_2 : decode cX7_stringText 2 = .ok (.iconst 0, 1) := dk_3 (dk_at dksX7_stringText_0 2 rfl rfl)
theorem dX7_stringText_3 : decode cX7_stringText 3 = .ok (.istore_n 2, 1) := dk_61 (dk_at dksX7_stringText_0 3 rfl rfl)
theorem dX7_stringText_4 : decode cX7_stringText 4 = .ok (.iload_n 2, 1) := dk_28 (dk_at dksX7_stringText_0 4 rfl rfl)
theorem dX7_stringText_5 : decode cX7_stringText 5 = .ok (.iconst 4, 1) := dk_7 (dk_at dksX7_stringText_0 5 rfl rfl)
theorem dX7_stringText_6 : decode cX7_stringText 6 = .ok (.if_icmp .ge 28, 3) := dk_162 0 28 (dk_at dksX7_stringText_0 6 rfl rfl)
theorem dX7_stringText_9 : decode cX7_stringText 9 = .ok (.aload_n 0, 1) := dk_42 (dk_at dksX7_stringText_0 9 rfl rfl)
theorem dX7_stringText_10 : decode cX7_stringText 10 = .ok (.aload_n 0, 1) := dk_42 (dk_at dksX7_stringText_0 10 rfl rfl)
theorem dX7_stringText_11 : decode cX7_stringText 11 = .ok (.getfield 38, 3) := dk_180 0 38 (dk_at dksX7_stringText_0 11 rfl rfl)
theorem dX7_stringText_14 : decode cX7_stringText 14 = .ok (.iload_n 2, 1) := dk_28 (dk_at dksX7_stringText_0 14 rfl rfl)
theorem dX7_stringText_15 : decode cX7_stringText 15 = .ok (.laload, 1) := dk_47 (dk_at dksX7_stringText_0 15 rfl rfl)
theorem dX7_stringText_16 : decode cX7_stringText 16 = .ok (.invokevirtual 226, 3) := dk_182 0 226 (dk_at dksX7_stringText_0 16 rfl rfl)
theorem dX7_stringText_19 : decode cX7_stringText 19 = .ok (.ifCond .eq 7, 3) := dk_153 0 7 (dk_at dksX7_stringText_0 19 rfl rfl)
theorem dX7_stringText_22 : decode cX7_stringText 22 = .ok (.iload_n 2, 1) := dk_28 (dk_at dksX7_stringText_0 22 rfl rfl)
theorem dX7_stringText_23 : decode cX7_stringText 23 = .ok (.goto 4, 3) := dk_167 0 4 (dk_at dksX7_stringText_1 0 rfl rfl)
theorem dX7_stringText_26 : decode cX7_stringText 26 = .ok (.iload_n 1, 1) := dk_27 (dk_at dksX7_stringText_1 3 rfl rfl)
theorem dX7_stringText_27 : decode cX7_stringText 27 = .ok (.istore_n 1, 1) := dk_60 (dk_at dksX7_stringText_1 4 rfl rfl)
theorem dX7_stringText_28 : decode cX7_stringText 28 = .ok (.iinc 2 1, 3) := dk_132 2 1 (dk_at dksX7_stringText_1 5 rfl rfl)
theorem dX7_stringText_31 : decode cX7_stringText 31 = .ok (.goto (-27), 3) := dk_167 255 229 (dk_at dksX7_stringText_1 8 rfl rfl)
theorem dX7_stringText_34 : decode cX7_stringText 34 = .ok (.aload_n 0, 1) := dk_42 (dk_at dksX7_stringText_1 11 rfl rfl)
theorem dX7_stringText_35 : decode cX7_stringText 35 = .ok (.iload_n 1, 1) := dk_27 (dk_at dksX7_stringText_1 12 rfl rfl)
theorem dX7_stringText_36 : decode cX7_stringText 36 = .ok (.iconst (-1), 1) := dk_2 (dk_at dksX7_stringText_1 13 rfl rfl)
theorem dX7_stringText_37 : decode cX7_stringText 37 = .ok (.if_icmp .eq 7, 3) := dk_159 0 7 (dk_at dksX7_stringText_1 14 rfl rfl)
theorem dX7_stringText_40 : decode cX7_stringText 40 = .ok (.iconst 1, 1) := dk_4 (dk_at dksX7_stringText_1 17 rfl rfl)
theorem dX7_stringText_41 : decode cX7_stringText 41 = .ok (.goto 4, 3) := dk_167 0 4 (dk_at dksX7_stringText_1 18 rfl rfl)
theorem dX7_stringText_44 : decode cX7_stringText 44 = .ok (.iconst 0, 1) := dk_3 (dk_at dksX7_stringText_1 21 rfl rfl)
theorem dX7_stringText_45 : decode cX7_stringText 45 = .ok (.iconst 1, 1) := dk_4 (dk_at dksX7_stringText_1 22 rfl rfl)
theorem dX7_stringText_46 : decode cX7_stringText 46 = .ok (.invokevirtual 201, 3) := dk_182 0 201 (dk_at dksX7_stringText_2 0 rfl rfl)
theorem dX7_stringText_49 : decode cX7_stringText 49 = .ok (.aload_n 0, 1) := dk_42 (dk_at dksX7_stringText_2 3 rfl rfl)
theorem dX7_stringText_50 : decode cX7_stringText 50 = .ok (.invokevirtual 205, 3) := dk_182 0 205 (dk_at dksX7_stringText_2 4 rfl rfl)
theorem dX7_stringText_53 : decode cX7_stringText 53 = .ok (.aload_n 0, 1) := dk_42 (dk_at dksX7_stringText_2 7 rfl rfl)
theorem dX7_stringText_54 : decode cX7_stringText 54 = .ok (.invokevirtual 215, 3) := dk_182 0 215 (dk_at dksX7_stringText_2 8 rfl rfl)
theorem dX7_stringText_57 : decode cX7_stringText 57 = .ok (.ifCond .eq 7, 3) := dk_153 0 7 (dk_at dksX7_stringText_2 11 rfl rfl)
theorem dX7_stringText_60 : decode cX7_stringText 60 = .ok (.iload_n 1, 1) := dk_27 (dk_at dksX7_stringText_2 14 rfl rfl)
theorem dX7_stringText_61 : decode cX7_stringText 61 = .ok (.goto 4, 3) := dk_167 0 4 (dk_at dksX7_stringText_2 15 rfl rfl)
theorem dX7_stringText_64 : decode cX7_stringText 64 = .ok (.iconst 0, 1) := dk_3 (dk_at dksX7_stringText_2 18 rfl rfl)
theorem dX7_stringText_65 : decode cX7_stringText 65 = .ok (.ireturn, 1) := dk_172 (dk_at dksX7_stringText_2 19 rfl rfl)
abbrev iX7_stringText : xM := (yX7_stringText, cX7_stringText, 3, (some .int), [])
theorem mX7_stringText : xOkM iX7_stringText := ⟨by decide +kernel, by decide, q3834, q175⟩
abbrev cX7_isOff : ByteArray := prog_15_method_11_code
def yX7_isOff : MethodName := ⟨RX7, "isOff", "(II)Z"⟩
def dkwX7_isOff_0 : List UInt8 := [42, 27, 16, 13, 28, 96, 182, 0, 75, 4, 160, 0, 7, 4, 167, 0, 4, 3, 172]
abbrev dktX7_isOff_0 : List UInt8 := dkwX7_isOff_0 ++ []
theorem dksX7_isOff_0 : cX7_isOff.data.toList.drop 0 = dktX7_isOff_0 := by decide +kernel
theorem dX7_isOff_0 : decode cX7_isOff 0 = .ok (.aload_n 0, 1) := dk_42 (dk_at dksX7_isOff_0 0 rfl rfl)
theorem dX7_isOff_1 : decode cX7_isOff 1 = .ok (.iload_n 1, 1) := dk_27 (dk_at dksX7_isOff_0 1 rfl rfl)
theorem dX7_isOff_2 : decode cX7_isOff 2 = .ok (.bipush 13, 2) := dk_16 13 (dk_at dksX7_isOff_0 2 rfl rfl)
theorem dX7_isOff_4 : decode cX7_isOff 4 = .ok (.iload_n 2, 1) := dk_28 (dk_at dksX7_isOff_0 4 rfl rfl)
theorem dX7_isOff_5 : decode cX7_isOff 5 = .ok (.iadd, 1) := dk_96 (dk_at dksX7_isOff_0 5 rfl rfl)
theorem dX7_isOff_6 : decode cX7_isOff 6 = .ok (.invokevirtual 75, 3) := dk_182 0 75 (dk_at dksX7_isOff_0 6 rfl rfl)
theorem dX7_isOff_9 : decode cX7_isOff 9 = .ok (.iconst 1, 1) := dk_4 (dk_at dksX7_isOff_0 9 rfl rfl)
theorem dX7_isOff_10 : decode cX7_isOff 10 = .ok (.if_icmp .ne 7, 3) := dk_160 0 7 (dk_at dksX7_isOff_0 10 rfl rfl)
theorem dX7_isOff_13 : decode cX7_isOff 13 = .ok (.iconst 1, 1) := dk_4 (dk_at dksX7_isOff_0 13 rfl rfl)
theorem dX7_isOff_14 : decode cX7_isOff 14 = .ok (.goto 4, 3) := dk_167 0 4 (dk_at dksX7_isOff_0 14 rfl rfl)
theorem dX7_isOff_17 : decode cX7_isOff 17 = .ok (.iconst 0, 1) := dk_3 (dk_at dksX7_isOff_0 17 rfl rfl)
theorem dX7_isOff_18 : decode cX7_isOff 18 = .ok (.ireturn, 1) := dk_172 (dk_at dksX7_isOff_0 18 rfl rfl)
abbrev iX7_isOff : xM := (yX7_isOff, cX7_isOff, 3, (some .boolean), [])
theorem mX7_isOff : xOkM iX7_isOff := ⟨by decide +kernel, by decide, q3838, q175⟩
abbrev cX7_canChalk : ByteArray := prog_15_method_29_code
def yX7_canChalk : MethodName := ⟨RX7, "canChalk", "(II)Z"⟩
def dkwX7_canChalk_1 : List UInt8 := [167, 0, 4, 3, 172]
abbrev dktX7_canChalk_1 : List UInt8 := dkwX7_canChalk_1 ++ []
def dkwX7_canChalk_0 : List UInt8 := [42, 27, 16, 17, 28, 96, 182, 0, 75, 16, 9, 162, 0, 16, 42, 180, 0, 7, 6, 46, 158, 0, 7, 4]
abbrev dktX7_canChalk_0 : List UInt8 := dkwX7_canChalk_0 ++ dktX7_canChalk_1
theorem dksX7_canChalk_0 : cX7_canChalk.data.toList.drop 0 = dktX7_canChalk_0 := by decide +kernel
theorem dksX7_canChalk_1 : cX7_canChalk.data.toList.drop 24 = dktX7_canChalk_1 := dk_seg dksX7_canChalk_0 24 rfl rfl
theorem dX7_canChalk_0 : decode cX7_canChalk 0 = .ok (.aload_n 0, 1) := dk_42 (dk_at dksX7_canChalk_0 0 rfl rfl)
theorem dX7_canChalk_1 : decode cX7_canChalk 1 = .ok (.iload_n 1, 1) := dk_27 (dk_at dksX7_canChalk_0 1 rfl rfl)
theorem dX7_canChalk_2 : decode cX7_canChalk 2 = .ok (.bipush 17, 2) := dk_16 17 (dk_at dksX7_canChalk_0 2 rfl rfl)
theorem dX7_canChalk_4 : decode cX7_canChalk 4 = .ok (.iload_n 2, 1) := dk_28 (dk_at dksX7_canChalk_0 4 rfl rfl)
theorem dX7_canChalk_5 : decode cX7_canChalk 5 = .ok (.iadd, 1) := dk_96 (dk_at dksX7_canChalk_0 5 rfl rfl)
theorem dX7_canChalk_6 : decode cX7_canChalk 6 = .ok (.invokevirtual 75, 3) := dk_182 0 75 (dk_at dksX7_canChalk_0 6 rfl rfl)
theorem dX7_canChalk_9 : decode cX7_canChalk 9 = .ok (.bipush 9, 2) := dk_16 9 (dk_at dksX7_canChalk_0 9 rfl rfl)
theorem dX7_canChalk_11 : decode cX7_canChalk 11 = .ok (.if_icmp .ge 16, 3) := dk_162 0 16 (dk_at dksX7_canChalk_0 11 rfl rfl)
theorem dX7_canChalk_14 : decode cX7_canChalk 14 = .ok (.aload_n 0, 1) := dk_42 (dk_at dksX7_canChalk_0 14 rfl rfl)
theorem dX7_canChalk_15 : decode cX7_canChalk 15 = .ok (.getfield 7, 3) := dk_180 0 7 (dk_at dksX7_canChalk_0 15 rfl rfl)
theorem dX7_canChalk_18 : decode cX7_canChalk 18 = .ok (.iconst 3, 1) := dk_6 (dk_at dksX7_canChalk_0 18 rfl rfl)
theorem dX7_canChalk_19 : decode cX7_canChalk 19 = .ok (.iaload, 1) := dk_46 (dk_at dksX7_canChalk_0 19 rfl rfl)
theorem dX7_canChalk_20 : decode cX7_canChalk 20 = .ok (.ifCond .le 7, 3) := dk_158 0 7 (dk_at dksX7_canChalk_0 20 rfl rfl)
theorem dX7_canChalk_23 : decode cX7_canChalk 23 = .ok (.iconst 1, 1) := dk_4 (dk_at dksX7_canChalk_0 23 rfl rfl)
theorem dX7_canChalk_24 : decode cX7_canChalk 24 = .ok (.goto 4, 3) := dk_167 0 4 (dk_at dksX7_canChalk_1 0 rfl rfl)
theorem dX7_canChalk_27 : decode cX7_canChalk 27 = .ok (.iconst 0, 1) := dk_3 (dk_at dksX7_canChalk_1 3 rfl rfl)
theorem dX7_canChalk_28 : decode cX7_canChalk 28 = .ok (.ireturn, 1) := dk_172 (dk_at dksX7_canChalk_1 4 rfl rfl)
abbrev iX7_canChalk : xM := (yX7_canChalk, cX7_canChalk, 3, (some .boolean), [])
theorem mX7_canChalk : xOkM iX7_canChalk := ⟨by decide +kernel, by decide, q3842, q175⟩
abbrev cX7_canReplace : ByteArray := prog_15_method_31_code
def yX7_canReplace : MethodName := ⟨RX7, "canReplace", "(II)Z"⟩
def dkwX7_canReplace_0 : List UInt8 := [42, 27, 28, 182, 0, 85, 153, 0, 16, 42, 180, 0, 7, 7, 46, 158, 0, 7, 4, 167, 0, 4, 3, 172]
abbrev dktX7_canReplace_0 : List UInt8 := dkwX7_canReplace_0 ++ []
theorem dksX7_canReplace_0 : cX7_canReplace.data.toList.drop 0 = dktX7_canReplace_0 := by decide +kernel
theorem dX7_canReplace_0 : decode cX7_canReplace 0 = .ok (.aload_n 0, 1) := dk_42 (dk_at dksX7_canReplace_0 0 rfl rfl)
theorem dX7_canReplace_1 : decode cX7_canReplace 1 = .ok (.iload_n 1, 1) := dk_27 (dk_at dksX7_canReplace_0 1 rfl rfl)
theorem dX7_canReplace_2 : decode cX7_canReplace 2 = .ok (.iload_n 2, 1) := dk_28 (dk_at dksX7_canReplace_0 2 rfl rfl)
theorem dX7_canReplace_3 : decode cX7_canReplace 3 = .ok (.invokevirtual 85, 3) := dk_182 0 85 (dk_at dksX7_canReplace_0 3 rfl rfl)
theorem dX7_canReplace_6 : decode cX7_canReplace 6 = .ok (.ifCond .eq 16, 3) := dk_153 0 16 (dk_at dksX7_canReplace_0 6 rfl rfl)
theorem dX7_canReplace_9 : decode cX7_canReplace 9 = .ok (.aload_n 0, 1) := dk_42 (dk_at dksX7_canReplace_0 9 rfl rfl)
theorem dX7_canReplace_10 : decode cX7_canReplace 10 = .ok (.getfield 7, 3) := dk_180 0 7 (dk_at dksX7_canReplace_0 10 rfl rfl)
theorem dX7_canReplace_13 : decode cX7_canReplace 13 = .ok (.iconst 4, 1) := dk_7 (dk_at dksX7_canReplace_0 13 rfl rfl)
theorem dX7_canReplace_14 : decode cX7_canReplace 14 = .ok (.iaload, 1) := dk_46 (dk_at dksX7_canReplace_0 14 rfl rfl)
theorem dX7_canReplace_15 : decode cX7_canReplace 15 = .ok (.ifCond .le 7, 3) := dk_158 0 7 (dk_at dksX7_canReplace_0 15 rfl rfl)
theorem dX7_canReplace_18 : decode cX7_canReplace 18 = .ok (.iconst 1, 1) := dk_4 (dk_at dksX7_canReplace_0 18 rfl rfl)
theorem dX7_canReplace_19 : decode cX7_canReplace 19 = .ok (.goto 4, 3) := dk_167 0 4 (dk_at dksX7_canReplace_0 19 rfl rfl)
theorem dX7_canReplace_22 : decode cX7_canReplace 22 = .ok (.iconst 0, 1) := dk_3 (dk_at dksX7_canReplace_0 22 rfl rfl)
theorem dX7_canReplace_23 : decode cX7_canReplace 23 = .ok (.ireturn, 1) := dk_172 (dk_at dksX7_canReplace_0 23 rfl rfl)
abbrev iX7_canReplace : xM := (yX7_canReplace, cX7_canReplace, 3, (some .boolean), [])
theorem mX7_canReplace : xOkM iX7_canReplace := ⟨by decide +kernel, by decide, q3846, q175⟩
abbrev cX7_turnsPeg : ByteArray := prog_15_method_28_code
def yX7_turnsPeg : MethodName := ⟨RX7, "turnsPeg", "(III)I"⟩
def dkwX7_turnsPeg_0 : List UInt8 := [42, 27, 28, 29, 182, 0, 100, 42, 27, 16, 17, 28, 96, 182, 0, 75, 172]
abbrev dktX7_turnsPeg_0 : List UInt8 := dkwX7_turnsPeg_0 ++ []
theorem dksX7_turnsPeg_0 : cX7_turnsPeg.data.toList.drop 0 = dktX7_turnsPeg_0 := by decide +kernel
theorem dX7_turnsPeg_0 : decode cX7_turnsPeg 0 = .ok (.aload_n 0, 1) := dk_42 (dk_at dksX7_turnsPeg_0 0 rfl rfl)
theorem dX7_turnsPeg_1 : decode cX7_turnsPeg 1 = .ok (.iload_n 1, 1) := dk_27 (dk_at dksX7_turnsPeg_0 1 rfl rfl)
theorem dX7_turnsPeg_2 : decode cX7_turnsPeg 2 = .ok (.iload_n 2, 1) := dk_28 (dk_at dksX7_turnsPeg_0 2 rfl rfl)
theorem dX7_turnsPeg_3 : decode cX7_turnsPeg 3 = .ok (.iload_n 3, 1) := dk_29 (dk_at dksX7_turnsPeg_0 3 rfl rfl)
theorem dX7_turnsPeg_4 : decode cX7_turnsPeg 4 = .ok (.invokevirtual 100, 3) := dk_182 0 100 (dk_at dksX7_turnsPeg_0 4 rfl rfl)
theorem dX7_turnsPeg_7 : decode cX7_turnsPeg 7 = .ok (.aload_n 0, 1) := dk_42 (dk_at dksX7_turnsPeg_0 7 rfl rfl)
theorem dX7_turnsPeg_8 : decode cX7_turnsPeg 8 = .ok (.iload_n 1, 1) := dk_27 (dk_at dksX7_turnsPeg_0 8 rfl rfl)
theorem dX7_turnsPeg_9 : decode cX7_turnsPeg 9 = .ok (.bipush 17, 2) := dk_16 17 (dk_at dksX7_turnsPeg_0 9 rfl rfl)
theorem dX7_turnsPeg_11 : decode cX7_turnsPeg 11 = .ok (.iload_n 2, 1) := dk_28 (dk_at dksX7_turnsPeg_0 11 rfl rfl)
theorem dX7_turnsPeg_12 : decode cX7_turnsPeg 12 = .ok (.iadd, 1) := dk_96 (dk_at dksX7_turnsPeg_0 12 rfl rfl)
theorem dX7_turnsPeg_13 : decode cX7_turnsPeg 13 = .ok (.invokevirtual 75, 3) := dk_182 0 75 (dk_at dksX7_turnsPeg_0 13 rfl rfl)
theorem dX7_turnsPeg_16 : decode cX7_turnsPeg 16 = .ok (.ireturn, 1) := dk_172 (dk_at dksX7_turnsPeg_0 16 rfl rfl)
abbrev iX7_turnsPeg : xM := (yX7_turnsPeg, cX7_turnsPeg, 4, (some .int), [])
theorem mX7_turnsPeg : xOkM iX7_turnsPeg := ⟨by decide +kernel, by decide, q3850, q175⟩
abbrev cX7_turns : ByteArray := prog_15_method_17_code
def yX7_turns : MethodName := ⟨RX7, "turns", "(III)V"⟩
def dkwX7_turns_4 : List UInt8 := [100, 184, 0, 82, 79, 177]
abbrev dktX7_turns_4 : List UInt8 := dkwX7_turns_4 ++ []
def dkwX7_turns_3 : List UInt8 := [100, 184, 0, 82, 116, 182, 0, 78, 42, 180, 0, 7, 27, 16, 17, 28, 96, 184, 0, 65, 3, 21, 4, 4]
abbrev dktX7_turns_3 : List UInt8 := dkwX7_turns_3 ++ dktX7_turns_4
def dkwX7_turns_2 : List UInt8 := [16, 18, 92, 46, 4, 96, 79, 167, 0, 25, 42, 27, 28, 29, 182, 0, 78, 42, 27, 28, 3, 6, 21, 4]
abbrev dktX7_turns_2 : List UInt8 := dkwX7_turns_2 ++ dktX7_turns_3
def dkwX7_turns_1 : List UInt8 := [17, 0, 150, 164, 0, 31, 42, 180, 0, 7, 27, 16, 13, 28, 96, 184, 0, 65, 4, 79, 42, 180, 0, 7]
abbrev dktX7_turns_1 : List UInt8 := dkwX7_turns_1 ++ dktX7_turns_2
def dkwX7_turns_0 : List UInt8 := [42, 27, 16, 17, 28, 96, 182, 0, 75, 54, 4, 42, 180, 0, 7, 16, 16, 92, 46, 4, 96, 79, 29]
abbrev dktX7_turns_0 : List UInt8 := dkwX7_turns_0 ++ dktX7_turns_1
theorem dksX7_turns_0 : cX7_turns.data.toList.drop 0 = dktX7_turns_0 := by decide +kernel
theorem dksX7_turns_1 : cX7_turns.data.toList.drop 23 = dktX7_turns_1 := dk_seg dksX7_turns_0 23 rfl rfl
theorem dksX7_turns_2 : cX7_turns.data.toList.drop 47 = dktX7_turns_2 := dk_seg dksX7_turns_1 24 rfl rfl
theorem dksX7_turns_3 : cX7_turns.data.toList.drop 71 = dktX7_turns_3 := dk_seg dksX7_turns_2 24 rfl rfl
theorem dksX7_turns_4 : cX7_turns.data.toList.drop 95 = dktX7_turns_4 := dk_seg dksX7_turns_3 24 rfl rfl
theorem dX7_turns_0 : decode cX7_turns 0 = .ok (.aload_n 0, 1) := dk_42 (dk_at dksX7_turns_0 0 rfl rfl)
theorem dX7_turns_1 : decode cX7_turns 1 = .ok (.iload_n 1, 1) := dk_27 (dk_at dksX7_turns_0 1 rfl rfl)
theorem dX7_turns_2 : decode cX7_turns 2 = .ok (.bipush 17, 2) := dk_16 17 (dk_at dksX7_turns_0 2 rfl rfl)
theorem dX7_turns_4 : decode cX7_turns 4 = .ok (.iload_n 2, 1) := dk_28 (dk_at dksX7_turns_0 4 rfl rfl)
theorem dX7_turns_5 : decode cX7_turns 5 = .ok (.iadd, 1) := dk_96 (dk_at dksX7_turns_0 5 rfl rfl)
theorem dX7_turns_6 : decode cX7_turns 6 = .ok (.invokevirtual 75, 3) := dk_182 0 75 (dk_at dksX7_turns_0 6 rfl rfl)
theorem dX7_turns_9 : decode cX7_turns 9 = .ok (.istore 4, 2) := dk_54 4 (dk_at dksX7_turns_0 9 rfl rfl)
theorem dX7_turns_11 : decode cX7_turns 11 = .ok (.aload_n 0, 1) := dk_42 (dk_at dksX7_turns_0 11 rfl rfl)
theorem dX7_turns_12 : decode cX7_turns 12 = .ok (.getfield 7, 3) := dk_180 0 7 (dk_at dksX7_turns_0 12 rfl rfl)
theorem dX7_turns_15 : decode cX7_turns 15 = .ok (.bipush 16, 2) := dk_16 16 (dk_at dksX7_turns_0 15 rfl rfl)
theorem dX7_turns_17 : decode cX7_turns 17 = .ok (.dup2, 1) := dk_92 (dk_at dksX7_turns_0 17 rfl rfl)
theorem dX7_turns_18 : decode cX7_turns 18 = .ok (.iaload, 1) := dk_46 (dk_at dksX7_turns_0 18 rfl rfl)
theorem dX7_turns_19 : decode cX7_turns 19 = .ok (.iconst 1, 1) := dk_4 (dk_at dksX7_turns_0 19 rfl rfl)
theorem dX7_turns_20 : decode cX7_turns 20 = .ok (.iadd, 1) := dk_96 (dk_at dksX7_turns_0 20 rfl rfl)
theorem dX7_turns_21 : decode cX7_turns 21 = .ok (.iastore, 1) := dk_79 (dk_at dksX7_turns_0 21 rfl rfl)
theorem dX7_turns_22 : decode cX7_turns 22 = .ok (.iload_n 3, 1) := dk_29 (dk_at dksX7_turns_0 22 rfl rfl)
theorem dX7_turns_23 : decode cX7_turns 23 = .ok (.sipush 150, 3) := dk_17 0 150 (dk_at dksX7_turns_1 0 rfl rfl)
theorem dX7_turns_26 : decode cX7_turns 26 = .ok (.if_icmp .le 31, 3) := dk_164 0 31 (dk_at dksX7_turns_1 3 rfl rfl)
theorem dX7_turns_29 : decode cX7_turns 29 = .ok (.aload_n 0, 1) := dk_42 (dk_at dksX7_turns_1 6 rfl rfl)
theorem dX7_turns_30 : decode cX7_turns 30 = .ok (.getfield 7, 3) := dk_180 0 7 (dk_at dksX7_turns_1 7 rfl rfl)
theorem dX7_turns_33 : decode cX7_turns 33 = .ok (.iload_n 1, 1) := dk_27 (dk_at dksX7_turns_1 10 rfl rfl)
theorem dX7_turns_34 : decode cX7_turns 34 = .ok (.bipush 13, 2) := dk_16 13 (dk_at dksX7_turns_1 11 rfl rfl)
theorem dX7_turns_36 : decode cX7_turns 36 = .ok (.iload_n 2, 1) := dk_28 (dk_at dksX7_turns_1 13 rfl rfl)
theorem dX7_turns_37 : decode cX7_turns 37 = .ok (.iadd, 1) := dk_96 (dk_at dksX7_turns_1 14 rfl rfl)
theorem dX7_turns_38 : decode cX7_turns 38 = .ok (.invokestatic 65, 3) := dk_184 0 65 (dk_at dksX7_turns_1 15 rfl rfl)
theorem dX7_turns_41 : decode cX7_turns 41 = .ok (.iconst 1, 1) := dk_4 (dk_at dksX7_turns_1 18 rfl rfl)
theorem dX7_turns_42 : decode cX7_turns 42 = .ok (.iastore, 1) := dk_79 (dk_at dksX7_turns_1 19 rfl rfl)
theorem dX7_turns_43 : decode cX7_turns 43 = .ok (.aload_n 0, 1) := dk_42 (dk_at dksX7_turns_1 20 rfl rfl)
theorem dX7_turns_44 : decode cX7_turns 44 = .ok (.getfield 7, 3) := dk_180 0 7 (dk_at dksX7_turns_1 21 rfl rfl)
theorem dX7_turns_47 : decode cX7_turns 47 = .ok (.bipush 18, 2) := dk_16 18 (dk_at dksX7_turns_2 0 rfl rfl)
theorem dX7_turns_49 : decode cX7_turns 49 = .ok (.dup2, 1) := dk_92 (dk_at dksX7_turns_2 2 rfl rfl)
theorem dX7_turns_50 : decode cX7_turns 50 = .ok (.iaload, 1) := dk_46 (dk_at dksX7_turns_2 3 rfl rfl)
theorem dX7_turns_51 : decode cX7_turns 51 = .ok (.iconst 1, 1) := dk_4 (dk_at dksX7_turns_2 4 rfl rfl)
theorem dX7_turns_52 : decode cX7_turns 52 = .ok (.iadd, 1) := dk_96 (dk_at dksX7_turns_2 5 rfl rfl)
theorem dX7_turns_53 : decode cX7_turns 53 = .ok (.iastore, 1) := dk_79 (dk_at dksX7_turns_2 6 rfl rfl)
theorem dX7_turns_54 : decode cX7_turns 54 = .ok (.goto 25, 3) := dk_167 0 25 (dk_at dksX7_turns_2 7 rfl rfl)
theorem dX7_turns_57 : decode cX7_turns 57 = .ok (.aload_n 0, 1) := dk_42 (dk_at dksX7_turns_2 10 rfl rfl)
theorem dX7_turns_58 : decode cX7_turns 58 = .ok (.iload_n 1, 1) := dk_27 (dk_at dksX7_turns_2 11 rfl rfl)
theorem dX7_turns_59 : decode cX7_turns 59 = .ok (.iload_n 2, 1) := dk_28 (dk_at dksX7_turns_2 12 rfl rfl)
theorem dX7_turns_60 : decode cX7_turns 60 = .ok (.iload_n 3, 1) := dk_29 (dk_at dksX7_turns_2 13 rfl rfl)
theorem dX7_turns_61 : decode cX7_turns 61 = .ok (.invokevirtual 78, 3) := dk_182 0 78 (dk_at dksX7_turns_2 14 rfl rfl)
theorem dX7_turns_64 : decode cX7_turns 64 = .ok (.aload_n 0, 1) := dk_42 (dk_at dksX7_turns_2 17 rfl rfl)
theorem dX7_turns_65 : decode cX7_turns 65 = .ok (.iload_n 1, 1) := dk_27 (dk_at dksX7_turns_2 18 rfl rfl)
theorem dX7_turns_66 : decode cX7_turns 66 = .ok (.iload_n 2, 1) := dk_28 (dk_at dksX7_turns_2 19 rfl rfl)
theorem dX7_turns_67 : decode cX7_turns 67 = .ok (.iconst 0, 1) := dk_3 (dk_at dksX7_turns_2 20 rfl rfl)
theorem dX7_turns_68 : decode cX7_turns 68 = .ok (.iconst 3, 1) := dk_6 (dk_at dksX7_turns_2 21 rfl rfl)
theorem dX7_turns_69 : decode cX7_turns 69 = .ok (.iload 4, 2) := dk_21 4 (dk_at dksX7_turns_2 22 rfl rfl)
theorem dX7_turns_71 : decode cX7_turns 71 = .ok (.isub, 1) := dk_100 (dk_at dksX7_turns_3 0 rfl rfl)
theorem dX7_turns_72 : decode cX7_turns 72 = .ok (.invokestatic 82, 3) := dk_184 0 82 (dk_at dksX7_turns_3 1 rfl rfl)
theorem dX7_turns_75 : decode cX7_turns 75 = .ok (.ineg, 1) := dk_116 (dk_at dksX7_turns_3 4 rfl rfl)
theorem dX7_turns_76 : decode cX7_turns 76 = .ok (.invokevirtual 78, 3) := dk_182 0 78 (dk_at dksX7_turns_3 5 rfl rfl)
theorem dX7_turns_79 : decode cX7_turns 79 = .ok (.aload_n 0, 1) := dk_42 (dk_at dksX7_turns_3 8 rfl rfl)
theorem dX7_turns_80 : decode cX7_turns 80 = .ok (.getfield 7, 3) := dk_180 0 7 (dk_at dksX7_turns_3 9 rfl rfl)
theorem dX7_turns_83 : decode cX7_turns 83 = .ok (.iload_n 1, 1) := dk_27 (dk_at dksX7_turns_3 12 rfl rfl)
theorem dX7_turns_84 : decode cX7_turns 84 = .ok (.bipush 17, 2) := dk_16 17 (dk_at dksX7_turns_3 13 rfl rfl)
theorem dX7_turns_86 : decode cX7_turns 86 = .ok (.iload_n 2, 1) := dk_28 (dk_at dksX7_turns_3 15 rfl rfl)
theorem dX7_turns_87 : decode cX7_turns 87 = .ok (.iadd, 1) := dk_96 (dk_at dksX7_turns_3 16 rfl rfl)
theorem dX7_turns_88 : decode cX7_turns 88 = .ok (.invokestatic 65, 3) := dk_184 0 65 (dk_at dksX7_turns_3 17 rfl rfl)
theorem dX7_turns_91 : decode cX7_turns 91 = .ok (.iconst 0, 1) := dk_3 (dk_at dksX7_turns_3 20 rfl rfl)
theorem dX7_turns_92 : decode cX7_turns 92 = .ok (.iload 4, 2) := dk_21 4 (dk_at dksX7_turns_3 21 rfl rfl)
theorem dX7_turns_94 : decode cX7_turns 94 = .ok (.iconst 1, 1) := dk_4 (dk_at dksX7_turns_3 23 rfl rfl)
theorem dX7_turns_95 : decode cX7_turns 95 = .ok (.isub, 1) := dk_100 (dk_at dksX7_turns_4 0 rfl rfl)
theorem dX7_turns_96 : decode cX7_turns 96 = .ok (.invokestatic 82, 3) := dk_184 0 82 (dk_at dksX7_turns_4 1 rfl rfl)
theorem dX7_turns_99 : decode cX7_turns 99 = .ok (.iastore, 1) := dk_79 (dk_at dksX7_turns_4 4 rfl rfl)
theorem dX7_turns_100 : decode cX7_turns 100 = .ok (.return_, 1) := dk_177 (dk_at dksX7_turns_4 5 rfl rfl)
abbrev iX7_turns : xM := (yX7_turns, cX7_turns, 5, none, [])
theorem mX7_turns : xOkM iX7_turns := ⟨by decide +kernel, by decide, q3854, q175⟩
abbrev cX7_shifts : ByteArray := prog_15_method_16_code
def yX7_shifts : MethodName := ⟨RX7, "shifts", "(III)V"⟩
def dkwX7_shifts_2 : List UInt8 := [162, 0, 9, 17, 252, 25, 167, 0, 5, 21, 4, 79, 177]
abbrev dktX7_shifts_2 : List UInt8 := dkwX7_shifts_2 ++ []
def dkwX7_shifts_1 : List UInt8 := [184, 0, 65, 21, 4, 17, 3, 231, 164, 0, 9, 17, 3, 231, 167, 0, 19, 21, 4, 17, 252, 25]
abbrev dktX7_shifts_1 : List UInt8 := dkwX7_shifts_1 ++ dktX7_shifts_2
def dkwX7_shifts_0 : List UInt8 := [42, 27, 16, 9, 28, 96, 182, 0, 75, 29, 96, 54, 4, 42, 180, 0, 7, 27, 16, 9, 28, 96]
abbrev dktX7_shifts_0 : List UInt8 := dkwX7_shifts_0 ++ dktX7_shifts_1
theorem dksX7_shifts_0 : cX7_shifts.data.toList.drop 0 = dktX7_shifts_0 := by decide +kernel
theorem dksX7_shifts_1 : cX7_shifts.data.toList.drop 22 = dktX7_shifts_1 := dk_seg dksX7_shifts_0 22 rfl rfl
theorem dksX7_shifts_2 : cX7_shifts.data.toList.drop 44 = dktX7_shifts_2 := dk_seg dksX7_shifts_1 22 rfl rfl
theorem dX7_shifts_0 : decode cX7_shifts 0 = .ok (.aload_n 0, 1) := dk_42 (dk_at dksX7_shifts_0 0 rfl rfl)
theorem dX7_shifts_1 : decode cX7_shifts 1 = .ok (.iload_n 1, 1) := dk_27 (dk_at dksX7_shifts_0 1 rfl rfl)
theorem dX7_shifts_2 : decode cX7_shifts 2 = .ok (.bipush 9, 2) := dk_16 9 (dk_at dksX7_shifts_0 2 rfl rfl)
theorem dX7_shifts_4 : decode cX7_shifts 4 = .ok (.iload_n 2, 1) := dk_28 (dk_at dksX7_shifts_0 4 rfl rfl)
theorem dX7_shifts_5 : decode cX7_shifts 5 = .ok (.iadd, 1) := dk_96 (dk_at dksX7_shifts_0 5 rfl rfl)
theorem dX7_shifts_6 : decode cX7_shifts 6 = .ok (.invokevirtual 75, 3) := dk_182 0 75 (dk_at dksX7_shifts_0 6 rfl rfl)
theorem dX7_shifts_9 : decode cX7_shifts 9 = .ok (.iload_n 3, 1) := dk_29 (dk_at dksX7_shifts_0 9 rfl rfl)
theorem dX7_shifts_10 : decode cX7_shifts 10 = .ok (.iadd, 1) := dk_96 (dk_at dksX7_shifts_0 10 rfl rfl)
theorem dX7_shifts_11 : decode cX7_shifts 11 = .ok (.istore 4, 2) := dk_54 4 (dk_at dksX7_shifts_0 11 rfl rfl)
theorem dX7_shifts_13 : decode cX7_shifts 13 = .ok (.aload_n 0, 1) := dk_42 (dk_at dksX7_shifts_0 13 rfl rfl)
theorem dX7_shifts_14 : decode cX7_shifts 14 = .ok (.getfield 7, 3) := dk_180 0 7 (dk_at dksX7_shifts_0 14 rfl rfl)
theorem dX7_shifts_17 : decode cX7_shifts 17 = .ok (.iload_n 1, 1) := dk_27 (dk_at dksX7_shifts_0 17 rfl rfl)
theorem dX7_shifts_18 : decode cX7_shifts 18 = .ok (.bipush 9, 2) := dk_16 9 (dk_at dksX7_shifts_0 18 rfl rfl)
theorem dX7_shifts_20 : decode cX7_shifts 20 = .ok (.iload_n 2, 1) := dk_28 (dk_at dksX7_shifts_0 20 rfl rfl)
theorem dX7_shifts_21 : decode cX7_shifts 21 = .ok (.iadd, 1) := dk_96 (dk_at dksX7_shifts_0 21 rfl rfl)
theorem dX7_shifts_22 : decode cX7_shifts 22 = .ok (.invokestatic 65, 3) := dk_184 0 65 (dk_at dksX7_shifts_1 0 rfl rfl)
theorem dX7_shifts_25 : decode cX7_shifts 25 = .ok (.iload 4, 2) := dk_21 4 (dk_at dksX7_shifts_1 3 rfl rfl)
theorem dX7_shifts_27 : decode cX7_shifts 27 = .ok (.sipush 999, 3) := dk_17 3 231 (dk_at dksX7_shifts_1 5 rfl rfl)
theorem dX7_shifts_30 : decode cX7_shifts 30 = .ok (.if_icmp .le 9, 3) := dk_164 0 9 (dk_at dksX7_shifts_1 8 rfl rfl)
theorem dX7_shifts_33 : decode cX7_shifts 33 = .ok (.sipush 999, 3) := dk_17 3 231 (dk_at dksX7_shifts_1 11 rfl rfl)
theorem dX7_shifts_36 : decode cX7_shifts 36 = .ok (.goto 19, 3) := dk_167 0 19 (dk_at dksX7_shifts_1 14 rfl rfl)
theorem dX7_shifts_39 : decode cX7_shifts 39 = .ok (.iload 4, 2) := dk_21 4 (dk_at dksX7_shifts_1 17 rfl rfl)
theorem dX7_shifts_41 : decode cX7_shifts 41 = .ok (.sipush (-999), 3) := dk_17 252 25 (dk_at dksX7_shifts_1 19 rfl rfl)
theorem dX7_shifts_44 : decode cX7_shifts 44 = .ok (.if_icmp .ge 9, 3) := dk_162 0 9 (dk_at dksX7_shifts_2 0 rfl rfl)
theorem dX7_shifts_47 : decode cX7_shifts 47 = .ok (.sipush (-999), 3) := dk_17 252 25 (dk_at dksX7_shifts_2 3 rfl rfl)
theorem dX7_shifts_50 : decode cX7_shifts 50 = .ok (.goto 5, 3) := dk_167 0 5 (dk_at dksX7_shifts_2 6 rfl rfl)
theorem dX7_shifts_53 : decode cX7_shifts 53 = .ok (.iload 4, 2) := dk_21 4 (dk_at dksX7_shifts_2 9 rfl rfl)
theorem dX7_shifts_55 : decode cX7_shifts 55 = .ok (.iastore, 1) := dk_79 (dk_at dksX7_shifts_2 11 rfl rfl)
theorem dX7_shifts_56 : decode cX7_shifts 56 = .ok (.return_, 1) := dk_177 (dk_at dksX7_shifts_2 12 rfl rfl)
abbrev iX7_shifts : xM := (yX7_shifts, cX7_shifts, 5, none, [])
theorem mX7_shifts : xOkM iX7_shifts := ⟨by decide +kernel, by decide, q3858, q175⟩
abbrev cX7_greater : ByteArray := prog_15_method_6_code
def yX7_greater : MethodName := ⟨RX7, "greater", "(II)I"⟩
def dkwX7_greater_0 : List UInt8 := [26, 27, 164, 0, 7, 26, 167, 0, 4, 27, 172]
abbrev dktX7_greater_0 : List UInt8 := dkwX7_greater_0 ++ []
theorem dksX7_greater_0 : cX7_greater.data.toList.drop 0 = dktX7_greater_0 := by decide +kernel
theorem dX7_greater_0 : decode cX7_greater 0 = .ok (.iload_n 0, 1) := dk_26 (dk_at dksX7_greater_0 0 rfl rfl)
theorem dX7_greater_1 : decode cX7_greater 1 = .ok (.iload_n 1, 1) := dk_27 (dk_at dksX7_greater_0 1 rfl rfl)
theorem dX7_greater_2 : decode cX7_greater 2 = .ok (.if_icmp .le 7, 3) := dk_164 0 7 (dk_at dksX7_greater_0 2 rfl rfl)
theorem dX7_greater_5 : decode cX7_greater 5 = .ok (.iload_n 0, 1) := dk_26 (dk_at dksX7_greater_0 5 rfl rfl)
theorem dX7_greater_6 : decode cX7_greater 6 = .ok (.goto 4, 3) := dk_167 0 4 (dk_at dksX7_greater_0 6 rfl rfl)
theorem dX7_greater_9 : decode cX7_greater 9 = .ok (.iload_n 1, 1) := dk_27 (dk_at dksX7_greater_0 9 rfl rfl)
theorem dX7_greater_10 : decode cX7_greater 10 = .ok (.ireturn, 1) := dk_172 (dk_at dksX7_greater_0 10 rfl rfl)
abbrev iX7_greater : xM := (yX7_greater, cX7_greater, 2, (some .int), [])
theorem mX7_greater : xOkM iX7_greater := ⟨by decide +kernel, by decide, q3861, q175⟩
abbrev cX7_chalks : ByteArray := prog_15_method_30_code
def yX7_chalks : MethodName := ⟨RX7, "chalks", "(II)I"⟩
def dkwX7_chalks_1 : List UInt8 := [79, 42, 180, 0, 7, 16, 7, 92, 46, 4, 96, 79, 42, 180, 0, 7, 6, 46, 172]
abbrev dktX7_chalks_1 : List UInt8 := dkwX7_chalks_1 ++ []
def dkwX7_chalks_0 : List UInt8 := [42, 180, 0, 7, 27, 16, 17, 28, 96, 184, 0, 65, 16, 9, 79, 42, 180, 0, 7, 6, 92, 46, 4, 100]
abbrev dktX7_chalks_0 : List UInt8 := dkwX7_chalks_0 ++ dktX7_chalks_1
theorem dksX7_chalks_0 : cX7_chalks.data.toList.drop 0 = dktX7_chalks_0 := by decide +kernel
theorem dksX7_chalks_1 : cX7_chalks.data.toList.drop 24 = dktX7_chalks_1 := dk_seg dksX7_chalks_0 24 rfl rfl
theorem dX7_chalks_0 : decode cX7_chalks 0 = .ok (.aload_n 0, 1) := dk_42 (dk_at dksX7_chalks_0 0 rfl rfl)
theorem dX7_chalks_1 : decode cX7_chalks 1 = .ok (.getfield 7, 3) := dk_180 0 7 (dk_at dksX7_chalks_0 1 rfl rfl)
theorem dX7_chalks_4 : decode cX7_chalks 4 = .ok (.iload_n 1, 1) := dk_27 (dk_at dksX7_chalks_0 4 rfl rfl)
theorem dX7_chalks_5 : decode cX7_chalks 5 = .ok (.bipush 17, 2) := dk_16 17 (dk_at dksX7_chalks_0 5 rfl rfl)
theorem dX7_chalks_7 : decode cX7_chalks 7 = .ok (.iload_n 2, 1) := dk_28 (dk_at dksX7_chalks_0 7 rfl rfl)
theorem dX7_chalks_8 : decode cX7_chalks 8 = .ok (.iadd, 1) := dk_96 (dk_at dksX7_chalks_0 8 rfl rfl)
theorem dX7_chalks_9 : decode cX7_chalks 9 = .ok (.invokestatic 65, 3) := dk_184 0 65 (dk_at dksX7_chalks_0 9 rfl rfl)
theorem dX7_chalks_12 : decode cX7_chalks 12 = .ok (.bipush 9, 2) := dk_16 9 (dk_at dksX7_chalks_0 12 rfl rfl)
theorem dX7_chalks_14 : decode cX7_chalks 14 = .ok (.iastore, 1) := dk_79 (dk_at dksX7_chalks_0 14 rfl rfl)
theorem dX7_chalks_15 : decode cX7_chalks 15 = .ok (.aload_n 0, 1) := dk_42 (dk_at dksX7_chalks_0 15 rfl rfl)
theorem dX7_chalks_16 : decode cX7_chalks 16 = .ok (.getfield 7, 3) := dk_180 0 7 (dk_at dksX7_chalks_0 16 rfl rfl)
theorem dX7_chalks_19 : decode cX7_chalks 19 = .ok (.iconst 3, 1) := dk_6 (dk_at dksX7_chalks_0 19 rfl rfl)
theorem dX7_chalks_20 : decode cX7_chalks 20 = .ok (.dup2, 1) := dk_92 (dk_at dksX7_chalks_0 20 rfl rfl)
theorem dX7_chalks_21 : decode cX7_chalks 21 = .ok (.iaload, 1) := dk_46 (dk_at dksX7_chalks_0 21 rfl rfl)
theorem dX7_chalks_22 : decode cX7_chalks 22 = .ok (.iconst 1, 1) := dk_4 (dk_at dksX7_chalks_0 22 rfl rfl)
theorem dX7_chalks_23 : decode cX7_chalks 23 = .ok (.isub, 1) := dk_100 (dk_at dksX7_chalks_0 23 rfl rfl)
theorem dX7_chalks_24 : decode cX7_chalks 24 = .ok (.iastore, 1) := dk_79 (dk_at dksX7_chalks_1 0 rfl rfl)
theorem dX7_chalks_25 : decode cX7_chalks 25 = .ok (.aload_n 0, 1) := dk_42 (dk_at dksX7_chalks_1 1 rfl rfl)
theorem dX7_chalks_26 : decode cX7_chalks 26 = .ok (.getfield 7, 3) := dk_180 0 7 (dk_at dksX7_chalks_1 2 rfl rfl)
theorem dX7_chalks_29 : decode cX7_chalks 29 = .ok (.bipush 7, 2) := dk_16 7 (dk_at dksX7_chalks_1 5 rfl rfl)
theorem dX7_chalks_31 : decode cX7_chalks 31 = .ok (.dup2, 1) := dk_92 (dk_at dksX7_chalks_1 7 rfl rfl)
theorem dX7_chalks_32 : decode cX7_chalks 32 = .ok (.iaload, 1) := dk_46 (dk_at dksX7_chalks_1 8 rfl rfl)
theorem dX7_chalks_33 : decode cX7_chalks 33 = .ok (.iconst 1, 1) := dk_4 (dk_at dksX7_chalks_1 9 rfl rfl)
theorem dX7_chalks_34 : decode cX7_chalks 34 = .ok (.iadd, 1) := dk_96 (dk_at dksX7_chalks_1 10 rfl rfl)
theorem dX7_chalks_35 : decode cX7_chalks 35 = .ok (.iastore, 1) := dk_79 (dk_at dksX7_chalks_1 11 rfl rfl)
theorem dX7_chalks_36 : decode cX7_chalks 36 = .ok (.aload_n 0, 1) := dk_42 (dk_at dksX7_chalks_1 12 rfl rfl)
theorem dX7_chalks_37 : decode cX7_chalks 37 = .ok (.getfield 7, 3) := dk_180 0 7 (dk_at dksX7_chalks_1 13 rfl rfl)
theorem dX7_chalks_40 : decode cX7_chalks 40 = .ok (.iconst 3, 1) := dk_6 (dk_at dksX7_chalks_1 16 rfl rfl)
theorem dX7_chalks_41 : decode cX7_chalks 41 = .ok (.iaload, 1) := dk_46 (dk_at dksX7_chalks_1 17 rfl rfl)
theorem dX7_chalks_42 : decode cX7_chalks 42 = .ok (.ireturn, 1) := dk_172 (dk_at dksX7_chalks_1 18 rfl rfl)
abbrev iX7_chalks : xM := (yX7_chalks, cX7_chalks, 3, (some .int), [])
theorem mX7_chalks : xOkM iX7_chalks := ⟨by decide +kernel, by decide, q3865, q175⟩
abbrev cX7_replaces : ByteArray := prog_15_method_32_code
def yX7_replaces : MethodName := ⟨RX7, "replaces", "(II)I"⟩
def dkwX7_replaces_2 : List UInt8 := [4, 96, 79, 42, 180, 0, 7, 7, 46, 172]
abbrev dktX7_replaces_2 : List UInt8 := dkwX7_replaces_2 ++ []
def dkwX7_replaces_1 : List UInt8 := [184, 0, 65, 16, 136, 79, 42, 180, 0, 7, 7, 92, 46, 4, 100, 79, 42, 180, 0, 7, 16, 8, 92, 46]
abbrev dktX7_replaces_1 : List UInt8 := dkwX7_replaces_1 ++ dktX7_replaces_2
def dkwX7_replaces_0 : List UInt8 := [42, 180, 0, 7, 27, 16, 13, 28, 96, 184, 0, 65, 3, 79, 42, 180, 0, 7, 27, 16, 9, 28, 96]
abbrev dktX7_replaces_0 : List UInt8 := dkwX7_replaces_0 ++ dktX7_replaces_1
theorem dksX7_replaces_0 : cX7_replaces.data.toList.drop 0 = dktX7_replaces_0 := by decide +kernel
theorem dksX7_replaces_1 : cX7_replaces.data.toList.drop 23 = dktX7_replaces_1 := dk_seg dksX7_replaces_0 23 rfl rfl
theorem dksX7_replaces_2 : cX7_replaces.data.toList.drop 47 = dktX7_replaces_2 := dk_seg dksX7_replaces_1 24 rfl rfl
theorem dX7_replaces_0 : decode cX7_replaces 0 = .ok (.aload_n 0, 1) := dk_42 (dk_at dksX7_replaces_0 0 rfl rfl)
theorem dX7_replaces_1 : decode cX7_replaces 1 = .ok (.getfield 7, 3) := dk_180 0 7 (dk_at dksX7_replaces_0 1 rfl rfl)
theorem dX7_replaces_4 : decode cX7_replaces 4 = .ok (.iload_n 1, 1) := dk_27 (dk_at dksX7_replaces_0 4 rfl rfl)
theorem dX7_replaces_5 : decode cX7_replaces 5 = .ok (.bipush 13, 2) := dk_16 13 (dk_at dksX7_replaces_0 5 rfl rfl)
theorem dX7_replaces_7 : decode cX7_replaces 7 = .ok (.iload_n 2, 1) := dk_28 (dk_at dksX7_replaces_0 7 rfl rfl)
theorem dX7_replaces_8 : decode cX7_replaces 8 = .ok (.iadd, 1) := dk_96 (dk_at dksX7_replaces_0 8 rfl rfl)
theorem dX7_replaces_9 : decode cX7_replaces 9 = .ok (.invokestatic 65, 3) := dk_184 0 65 (dk_at dksX7_replaces_0 9 rfl rfl)
theorem dX7_replaces_12 : decode cX7_replaces 12 = .ok (.iconst 0, 1) := dk_3 (dk_at dksX7_replaces_0 12 rfl rfl)
theorem dX7_replaces_13 : decode cX7_replaces 13 = .ok (.iastore, 1) := dk_79 (dk_at dksX7_replaces_0 13 rfl rfl)
theorem dX7_replaces_14 : decode cX7_replaces 14 = .ok (.aload_n 0, 1) := dk_42 (dk_at dksX7_replaces_0 14 rfl rfl)
theorem dX7_replaces_15 : decode cX7_replaces 15 = .ok (.getfield 7, 3) := dk_180 0 7 (dk_at dksX7_replaces_0 15 rfl rfl)
theorem dX7_replaces_18 : decode cX7_replaces 18 = .ok (.iload_n 1, 1) := dk_27 (dk_at dksX7_replaces_0 18 rfl rfl)
theorem dX7_replaces_19 : decode cX7_replaces 19 = .ok (.bipush 9, 2) := dk_16 9 (dk_at dksX7_replaces_0 19 rfl rfl)
theorem dX7_replaces_21 : decode cX7_replaces 21 = .ok (.iload_n 2, 1) := dk_28 (dk_at dksX7_replaces_0 21 rfl rfl)
theorem dX7_replaces_22 : decode cX7_replaces 22 = .ok (.iadd, 1) := dk_96 (dk_at dksX7_replaces_0 22 rfl rfl)
theorem dX7_replaces_23 : decode cX7_replaces 23 = .ok (.invokestatic 65, 3) := dk_184 0 65 (dk_at dksX7_replaces_1 0 rfl rfl)
theorem dX7_replaces_26 : decode cX7_replaces 26 = .ok (.bipush (-120), 2) := dk_16 136 (dk_at dksX7_replaces_1 3 rfl rfl)
theorem dX7_replaces_28 : decode cX7_replaces 28 = .ok (.iastore, 1) := dk_79 (dk_at dksX7_replaces_1 5 rfl rfl)
theorem dX7_replaces_29 : decode cX7_replaces 29 = .ok (.aload_n 0, 1) := dk_42 (dk_at dksX7_replaces_1 6 rfl rfl)
theorem dX7_replaces_30 : decode cX7_replaces 30 = .ok (.getfield 7, 3) := dk_180 0 7 (dk_at dksX7_replaces_1 7 rfl rfl)
theorem dX7_replaces_33 : decode cX7_replaces 33 = .ok (.iconst 4, 1) := dk_7 (dk_at dksX7_replaces_1 10 rfl rfl)
theorem dX7_replaces_34 : decode cX7_replaces 34 = .ok (.dup2, 1) := dk_92 (dk_at dksX7_replaces_1 11 rfl rfl)
theorem dX7_replaces_35 : decode cX7_replaces 35 = .ok (.iaload, 1) := dk_46 (dk_at dksX7_replaces_1 12 rfl rfl)
theorem dX7_replaces_36 : decode cX7_replaces 36 = .ok (.iconst 1, 1) := dk_4 (dk_at dksX7_replaces_1 13 rfl rfl)
theorem dX7_replaces_37 : decode cX7_replaces 37 = .ok (.isub, 1) := dk_100 (dk_at dksX7_replaces_1 14 rfl rfl)
theorem dX7_replaces_38 : decode cX7_replaces 38 = .ok (.iastore, 1) := dk_79 (dk_at dksX7_replaces_1 15 rfl rfl)
theorem dX7_replaces_39 : decode cX7_replaces 39 = .ok (.aload_n 0, 1) := dk_42 (dk_at dksX7_replaces_1 16 rfl rfl)
theorem dX7_replaces_40 : decode cX7_replaces 40 = .ok (.getfield 7, 3) := dk_180 0 7 (dk_at dksX7_replaces_1 17 rfl rfl)
theorem dX7_replaces_43 : decode cX7_replaces 43 = .ok (.bipush 8, 2) := dk_16 8 (dk_at dksX7_replaces_1 20 rfl rfl)
theorem dX7_replaces_45 : decode cX7_replaces 45 = .ok (.dup2, 1) := dk_92 (dk_at dksX7_replaces_1 22 rfl rfl)
theorem dX7_replaces_46 : decode cX7_replaces 46 = .ok (.iaload, 1) := dk_46 (dk_at dksX7_replaces_1 23 rfl rfl)
theorem dX7_replaces_47 : decode cX7_replaces 47 = .ok (.iconst 1, 1) := dk_4 (dk_at dksX7_replaces_2 0 rfl rfl)
theorem dX7_replaces_48 : decode cX7_replaces 48 = .ok (.iadd, 1) := dk_96 (dk_at dksX7_replaces_2 1 rfl rfl)
theorem dX7_replaces_49 : decode cX7_replaces 49 = .ok (.iastore, 1) := dk_79 (dk_at dksX7_replaces_2 2 rfl rfl)
theorem dX7_replaces_50 : decode cX7_replaces 50 = .ok (.aload_n 0, 1) := dk_42 (dk_at dksX7_replaces_2 3 rfl rfl)
theorem dX7_replaces_51 : decode cX7_replaces 51 = .ok (.getfield 7, 3) := dk_180 0 7 (dk_at dksX7_replaces_2 4 rfl rfl)
theorem dX7_replaces_54 : decode cX7_replaces 54 = .ok (.iconst 4, 1) := dk_7 (dk_at dksX7_replaces_2 7 rfl rfl)
theorem dX7_replaces_55 : decode cX7_replaces 55 = .ok (.iaload, 1) := dk_46 (dk_at dksX7_replaces_2 8 rfl rfl)
theorem dX7_replaces_56 : decode cX7_replaces 56 = .ok (.ireturn, 1) := dk_172 (dk_at dksX7_replaces_2 9 rfl rfl)
abbrev iX7_replaces : xM := (yX7_replaces, cX7_replaces, 3, (some .int), [])
theorem mX7_replaces : xOkM iX7_replaces := ⟨by decide +kernel, by decide, q3869, q175⟩
abbrev cX7_wholeOrder : ByteArray := prog_15_method_70_code
def yX7_wholeOrder : MethodName := ⟨RX7, "wholeOrder", "(J)V"⟩
def dkwX7_wholeOrder_5 : List UInt8 := [182, 1, 89, 54, 5, 42, 21, 4, 182, 1, 40, 177]
abbrev dktX7_wholeOrder_5 : List UInt8 := dkwX7_wholeOrder_5 ++ []
def dkwX7_wholeOrder_4 : List UInt8 := [29, 182, 1, 83, 167, 0, 23, 31, 20, 1, 81, 148, 154, 0, 11, 42, 29, 182, 1, 86, 167, 0, 7, 42]
abbrev dktX7_wholeOrder_4 : List UInt8 := dkwX7_wholeOrder_4 ++ dktX7_wholeOrder_5
def dkwX7_wholeOrder_3 : List UInt8 := [167, 0, 4, 3, 54, 4, 21, 4, 154, 0, 7, 2, 167, 0, 39, 31, 20, 1, 79, 148, 154, 0, 11, 42]
abbrev dktX7_wholeOrder_3 : List UInt8 := dkwX7_wholeOrder_3 ++ dktX7_wholeOrder_4
def dkwX7_wholeOrder_2 : List UInt8 := [20, 1, 81, 148, 154, 0, 17, 42, 180, 0, 7, 3, 46, 29, 96, 17, 39, 15, 163, 0, 7, 4]
abbrev dktX7_wholeOrder_2 : List UInt8 := dkwX7_wholeOrder_2 ++ dktX7_wholeOrder_3
def dkwX7_wholeOrder_1 : List UInt8 := [154, 0, 13, 42, 4, 16, 48, 182, 0, 208, 167, 0, 4, 3, 62, 42, 182, 1, 31, 153, 0, 85, 31]
abbrev dktX7_wholeOrder_1 : List UInt8 := dkwX7_wholeOrder_1 ++ dktX7_wholeOrder_2
def dkwX7_wholeOrder_0 : List UInt8 := [31, 20, 1, 79, 148, 154, 0, 13, 42, 3, 16, 40, 182, 0, 208, 167, 0, 22, 31, 20, 1, 81, 148]
abbrev dktX7_wholeOrder_0 : List UInt8 := dkwX7_wholeOrder_0 ++ dktX7_wholeOrder_1
theorem dksX7_wholeOrder_0 : cX7_wholeOrder.data.toList.drop 0 = dktX7_wholeOrder_0 := by decide +kernel
theorem dksX7_wholeOrder_1 : cX7_wholeOrder.data.toList.drop 23 = dktX7_wholeOrder_1 := dk_seg dksX7_wholeOrder_0 23 rfl rfl
theorem dksX7_wholeOrder_2 : cX7_wholeOrder.data.toList.drop 46 = dktX7_wholeOrder_2 := dk_seg dksX7_wholeOrder_1 23 rfl rfl
theorem dksX7_wholeOrder_3 : cX7_wholeOrder.data.toList.drop 68 = dktX7_wholeOrder_3 := dk_seg dksX7_wholeOrder_2 22 rfl rfl
theorem dksX7_wholeOrder_4 : cX7_wholeOrder.data.toList.drop 92 = dktX7_wholeOrder_4 := dk_seg dksX7_wholeOrder_3 24 rfl rfl
theorem dksX7_wholeOrder_5 : cX7_wholeOrder.data.toList.drop 116 = dktX7_wholeOrder_5 := dk_seg dksX7_wholeOrder_4 24 rfl rfl
theorem dX7_wholeOrder_0 : decode cX7_wholeOrder 0 = .ok (.lload_n 1, 1) := dk_31 (dk_at dksX7_wholeOrder_0 0 rfl rfl)
theorem dX7_wholeOrder_1 : decode cX7_wholeOrder 1 = .ok (.ldc2_w 335, 3) := dk_20 1 79 (dk_at dksX7_wholeOrder_0 1 rfl rfl)
theorem dX7_wholeOrder_4 : decode cX7_wholeOrder 4 = .ok (.lcmp, 1) := dk_148 (dk_at dksX7_wholeOrder_0 4 rfl rfl)
theorem dX7_wholeOrder_5 : decode cX7_wholeOrder 5 = .ok (.ifCond .ne 13, 3) := dk_154 0 13 (dk_at dksX7_wholeOrder_0 5 rfl rfl)
theorem dX7_wholeOrder_8 : decode cX7_wholeOrder 8 = .ok (.aload_n 0, 1) := dk_42 (dk_at dksX7_wholeOrder_0 8 rfl rfl)
theorem dX7_wholeOrder_9 : decode cX7_wholeOrder 9 = .ok (.iconst 0, 1) := dk_3 (dk_at dksX7_wholeOrder_0 9 rfl rfl)
theorem dX7_wholeOrder_10 : decode cX7_wholeOrder 10 = .ok (.bipush 40, 2) := dk_16 40 (dk_at dksX7_wholeOrder_0 10 rfl rfl)
theorem dX7_wholeOrder_12 : decode cX7_wholeOrder 12 = .ok (.invokevirtual 208, 3) := dk_182 0 208 (dk_at dksX7_wholeOrder_0 12 rfl rfl)
theorem dX7_wholeOrder_15 : decode cX7_wholeOrder 15 = .ok (.goto 22, 3) := dk_167 0 22 (dk_at dksX7_wholeOrder_0 15 rfl rfl)
theorem dX7_wholeOrder_18 : decode cX7_wholeOrder 18 = .ok (.lload_n 1, 1) := dk_31 (dk_at dksX7_wholeOrder_0 18 rfl rfl)
theorem dX7_wholeOrder_19 : decode cX7_wholeOrder 19 = .ok (.ldc2_w 337, 3) := dk_20 1 81 (dk_at dksX7_wholeOrder_0 19 rfl rfl)
theorem dX7_wholeOrder_22 : decode cX7_wholeOrder 22 = .ok (.lcmp, 1) := dk_148 (dk_at dksX7_wholeOrder_0 22 rfl rfl)
theorem dX7_wholeOrder_23 : decode cX7_wholeOrder 23 = .ok (.ifCond .ne 13, 3) := dk_154 0 13 (dk_at dksX7_wholeOrder_1 0 rfl rfl)
theorem dX7_wholeOrder_26 : decode cX7_wholeOrder 26 = .ok (.aload_n 0, 1) := dk_42 (dk_at dksX7_wholeOrder_1 3 rfl rfl)
theorem dX7_wholeOrder_27 : decode cX7_wholeOrder 27 = .ok (.iconst 1, 1) := dk_4 (dk_at dksX7_wholeOrder_1 4 rfl rfl)
theorem dX7_wholeOrder_28 : decode cX7_wholeOrder 28 = .ok (.bipush 48, 2) := dk_16 48 (dk_at dksX7_wholeOrder_1 5 rfl rfl)
theorem dX7_wholeOrder_30 : decode cX7_wholeOrder 30 = .ok (.invokevirtual 208, 3) := dk_182 0 208 (dk_at dksX7_wholeOrder_1 7 rfl rfl)
theorem dX7_wholeOrder_33 : decode cX7_wholeOrder 33 = .ok (.goto 4, 3) := dk_167 0 4 (dk_at dksX7_wholeOrder_1 10 rfl rfl)
theorem dX7_wholeOrder_36 : decode cX7_wholeOrder 36 = .ok (.iconst 0, 1) := dk_3 (dk_at dksX7_wholeOrder_1 13 rfl rfl)
theorem dX7_wholeOrder_37 : decode cX7_wholeOrder 37 = .ok (.istore_n 3, 1) := dk_62 (dk_at dksX7_wholeOrder_1 14 rfl rfl)
theorem dX7_wholeOrder_38 : decode cX7_wholeOrder 38 = .ok (.aload_n 0, 1) := dk_42 (dk_at dksX7_wholeOrder_1 15 rfl rfl)
theorem dX7_wholeOrder_39 : decode cX7_wholeOrder 39 = .ok (.invokevirtual 287, 3) := dk_182 1 31 (dk_at dksX7_wholeOrder_1 16 rfl rfl)
theorem dX7_wholeOrder_42 : decode cX7_wholeOrder 42 = .ok (.ifCond .eq 85, 3) := dk_153 0 85 (dk_at dksX7_wholeOrder_1 19 rfl rfl)
theorem dX7_wholeOrder_45 : decode cX7_wholeOrder 45 = .ok (.lload_n 1, 1) := dk_31 (dk_at dksX7_wholeOrder_1 22 rfl rfl)
theorem dX7_wholeOrder_46 : decode cX7_wholeOrder 46 = .ok (.ldc2_w 337, 3) := dk_20 1 81 (dk_at dksX7_wholeOrder_2 0 rfl rfl)
theorem dX7_wholeOrder_49 : decode cX7_wholeOrder 49 = .ok (.lcmp, 1) := dk_148 (dk_at dksX7_wholeOrder_2 3 rfl rfl)
theorem dX7_wholeOrder_50 : decode cX7_wholeOrder 50 = .ok (.ifCond .ne 17, 3) := dk_154 0 17 (dk_at dksX7_wholeOrder_2 4 rfl rfl)
theorem dX7_wholeOrder_53 : decode cX7_wholeOrder 53 = .ok (.aload_n 0, 1) := dk_42 (dk_at dksX7_wholeOrder_2 7 rfl rfl)
theorem dX7_wholeOrder_54 : decode cX7_wholeOrder 54 = .ok (.getfield 7, 3) := dk_180 0 7 (dk_at dksX7_wholeOrder_2 8 rfl rfl)
theorem dX7_wholeOrder_57 : decode cX7_wholeOrder 57 = .ok (.iconst 0, 1) := dk_3 (dk_at dksX7_wholeOrder_2 11 rfl rfl)
theorem dX7_wholeOrder_58 : decode cX7_wholeOrder 58 = .ok (.iaload, 1) := dk_46 (dk_at dksX7_wholeOrder_2 12 rfl rfl)
theorem dX7_wholeOrder_59 : decode cX7_wholeOrder 59 = .ok (.iload_n 3, 1) := dk_29 (dk_at dksX7_wholeOrder_2 13 rfl rfl)
theorem dX7_wholeOrder_60 : decode cX7_wholeOrder 60 = .ok (.iadd, 1) := dk_96 (dk_at dksX7_wholeOrder_2 14 rfl rfl)
theorem dX7_wholeOrder_61 : decode cX7_wholeOrder 61 = .ok (.sipush 9999, 3) := dk_17 39 15 (dk_at dksX7_wholeOrder_2 15 rfl rfl)
theorem dX7_wholeOrder_64 : decode cX7_wholeOrder 64 = .ok (.if_icmp .gt 7, 3) := dk_163 0 7 (dk_at dksX7_wholeOrder_2 18 rfl rfl)
theorem dX7_wholeOrder_67 : decode cX7_wholeOrder 67 = .ok (.iconst 1, 1) := dk_4 (dk_at dksX7_wholeOrder_2 21 rfl rfl)
theorem dX7_wholeOrder_68 : decode cX7_wholeOrder 68 = .ok (.goto 4, 3) := dk_167 0 4 (dk_at dksX7_wholeOrder_3 0 rfl rfl)
theorem dX7_wholeOrder_71 : decode cX7_wholeOrder 71 = .ok (.iconst 0, 1) := dk_3 (dk_at dksX7_wholeOrder_3 3 rfl rfl)
theorem dX7_wholeOrder_72 : decode cX7_wholeOrder 72 = .ok (.istore 4, 2) := dk_54 4 (dk_at dksX7_wholeOrder_3 4 rfl rfl)
theorem dX7_wholeOrder_74 : decode cX7_wholeOrder 74 = .ok (.iload 4, 2) := dk_21 4 (dk_at dksX7_wholeOrder_3 6 rfl rfl)
theorem dX7_wholeOrder_76 : decode cX7_wholeOrder 76 = .ok (.ifCond .ne 7, 3) := dk_154 0 7 (dk_at dksX7_wholeOrder_3 8 rfl rfl)
theorem dX7_wholeOrder_79 : decode cX7_wholeOrder 79 = .ok (.iconst (-1), 1) := dk_2 (dk_at dksX7_wholeOrder_3 11 rfl rfl)
theorem dX7_wholeOrder_80 : decode cX7_wholeOrder 80 = .ok (.goto 39, 3) := dk_167 0 39 (dk_at dksX7_wholeOrder_3 12 rfl rfl)
theorem dX7_wholeOrder_83 : decode cX7_wholeOrder 83 = .ok (.lload_n 1, 1) := dk_31 (dk_at dksX7_wholeOrder_3 15 rfl rfl)
theorem dX7_wholeOrder_84 : decode cX7_wholeOrder 84 = .ok (.ldc2_w 335, 3) := dk_20 1 79 (dk_at dksX7_wholeOrder_3 16 rfl rfl)
theorem dX7_wholeOrder_87 : decode cX7_wholeOrder 87 = .ok (.lcmp, 1) := dk_148 (dk_at dksX7_wholeOrder_3 19 rfl rfl)
theorem dX7_wholeOrder_88 : decode cX7_wholeOrder 88 = .ok (.ifCond .ne 11, 3) := dk_154 0 11 (dk_at dksX7_wholeOrder_3 20 rfl rfl)
theorem dX7_wholeOrder_91 : decode cX7_wholeOrder 91 = .ok (.aload_n 0, 1) := dk_42 (dk_at dksX7_wholeOrder_3 23 rfl rfl)
theorem dX7_wholeOrder_92 : decode cX7_wholeOrder 92 = .ok (.iload_n 3, 1) := dk_29 (dk_at dksX7_wholeOrder_4 0 rfl rfl)
theorem dX7_wholeOrder_93 : decode cX7_wholeOrder 93 = .ok (.invokevirtual 339, 3) := dk_182 1 83 (dk_at dksX7_wholeOrder_4 1 rfl rfl)
theorem dX7_wholeOrder_96 : decode cX7_wholeOrder 96 = .ok (.goto 23, 3) := dk_167 0 23 (dk_at dksX7_wholeOrder_4 4 rfl rfl)
theorem dX7_wholeOrder_99 : decode cX7_wholeOrder 99 = .ok (.lload_n 1, 1) := dk_31 (dk_at dksX7_wholeOrder_4 7 rfl rfl)
theorem dX7_wholeOrder_100 : decode cX7_wholeOrder 100 = .ok (.ldc2_w 337, 3) := dk_20 1 81 (dk_at dksX7_wholeOrder_4 8 rfl rfl)
theorem dX7_wholeOrder_103 : decode cX7_wholeOrder 103 = .ok (.lcmp, 1) := dk_148 (dk_at dksX7_wholeOrder_4 11 rfl rfl)
theorem dX7_wholeOrder_104 : decode cX7_wholeOrder 104 = .ok (.ifCond .ne 11, 3) := dk_154 0 11 (dk_at dksX7_wholeOrder_4 12 rfl rfl)
theorem dX7_wholeOrder_107 : decode cX7_wholeOrder 107 = .ok (.aload_n 0, 1) := dk_42 (dk_at dksX7_wholeOrder_4 15 rfl rfl)
theorem dX7_wholeOrder_108 : decode cX7_wholeOrder 108 = .ok (.iload_n 3, 1) := dk_29 (dk_at dksX7_wholeOrder_4 16 rfl rfl)
theorem dX7_wholeOrder_109 : decode cX7_wholeOrder 109 = .ok (.invokevirtual 342, 3) := dk_182 1 86 (dk_at dksX7_wholeOrder_4 17 rfl rfl)
theorem dX7_wholeOrder_112 : decode cX7_wholeOrder 112 = .ok (.goto 7, 3) := dk_167 0 7 (dk_at dksX7_wholeOrder_4 20 rfl rfl)
theorem dX7_wholeOrder_115 : decode cX7_wholeOrder 115 = .ok (.aload_n 0, 1) := dk_42 (dk_at dksX7_wholeOrder_4 23 rfl rfl)
theorem dX7_wholeOrder_116 : decode cX7_wholeOrder 116 = .ok (.invokevirtual 345, 3) := dk_182 1 89 (dk_at dksX7_wholeOrder_5 0 rfl rfl)
theorem dX7_wholeOrder_119 : decode cX7_wholeOrder 119 = .ok (.istore 5, 2) := dk_54 5 (dk_at dksX7_wholeOrder_5 3 rfl rfl)
theorem dX7_wholeOrder_121 : decode cX7_wholeOrder 121 = .ok (.aload_n 0, 1) := dk_42 (dk_at dksX7_wholeOrder_5 5 rfl rfl)
theorem dX7_wholeOrder_122 : decode cX7_wholeOrder 122 = .ok (.iload 4, 2) := dk_21 4 (dk_at dksX7_wholeOrder_5 6 rfl rfl)
theorem dX7_wholeOrder_124 : decode cX7_wholeOrder 124 = .ok (.invokevirtual 296, 3) := dk_182 1 40 (dk_at dksX7_wholeOrder_5 8 rfl rfl)
theorem dX7_wholeOrder_127 : decode cX7_wholeOrder 127 = .ok (.return_, 1) := dk_177 (dk_at dksX7_wholeOrder_5 11 rfl rfl)
abbrev iX7_wholeOrder : xM := (yX7_wholeOrder, cX7_wholeOrder, 6, none, [])
theorem mX7_wholeOrder : xOkM iX7_wholeOrder := ⟨by decide +kernel, by decide, q3873, q175⟩
abbrev cX7_setsTarget : ByteArray := prog_15_method_37_code
def yX7_setsTarget : MethodName := ⟨RX7, "setsTarget", "(I)I"⟩
def dkwX7_setsTarget_0 : List UInt8 := [42, 180, 0, 7, 5, 46, 61, 42, 180, 0, 7, 5, 27, 79, 28, 172]
abbrev dktX7_setsTarget_0 : List UInt8 := dkwX7_setsTarget_0 ++ []
theorem dksX7_setsTarget_0 : cX7_setsTarget.data.toList.drop 0 = dktX7_setsTarget_0 := by decide +kernel
theorem dX7_setsTarget_0 : decode cX7_setsTarget 0 = .ok (.aload_n 0, 1) := dk_42 (dk_at dksX7_setsTarget_0 0 rfl rfl)
theorem dX7_setsTarget_1 : decode cX7_setsTarget 1 = .ok (.getfield 7, 3) := dk_180 0 7 (dk_at dksX7_setsTarget_0 1 rfl rfl)
theorem dX7_setsTarget_4 : decode cX7_setsTarget 4 = .ok (.iconst 2, 1) := dk_5 (dk_at dksX7_setsTarget_0 4 rfl rfl)
theorem dX7_setsTarget_5 : decode cX7_setsTarget 5 = .ok (.iaload, 1) := dk_46 (dk_at dksX7_setsTarget_0 5 rfl rfl)
theorem dX7_setsTarget_6 : decode cX7_setsTarget 6 = .ok (.istore_n 2, 1) := dk_61 (dk_at dksX7_setsTarget_0 6 rfl rfl)
theorem dX7_setsTarget_7 : decode cX7_setsTarget 7 = .ok (.aload_n 0, 1) := dk_42 (dk_at dksX7_setsTarget_0 7 rfl rfl)
theorem dX7_setsTarget_8 : decode cX7_setsTarget 8 = .ok (.getfield 7, 3) := dk_180 0 7 (dk_at dksX7_setsTarget_0 8 rfl rfl)
theorem dX7_setsTarget_11 : decode cX7_setsTarget 11 = .ok (.iconst 2, 1) := dk_5 (dk_at dksX7_setsTarget_0 11 rfl rfl)
theorem dX7_setsTarget_12 : decode cX7_setsTarget 12 = .ok (.iload_n 1, 1) := dk_27 (dk_at dksX7_setsTarget_0 12 rfl rfl)
theorem dX7_setsTarget_13 : decode cX7_setsTarget 13 = .ok (.iastore, 1) := dk_79 (dk_at dksX7_setsTarget_0 13 rfl rfl)
theorem dX7_setsTarget_14 : decode cX7_setsTarget 14 = .ok (.iload_n 2, 1) := dk_28 (dk_at dksX7_setsTarget_0 14 rfl rfl)
theorem dX7_setsTarget_15 : decode cX7_setsTarget 15 = .ok (.ireturn, 1) := dk_172 (dk_at dksX7_setsTarget_0 15 rfl rfl)
abbrev iX7_setsTarget : xM := (yX7_setsTarget, cX7_setsTarget, 3, (some .int), [])
theorem mX7_setsTarget : xOkM iX7_setsTarget := ⟨by decide +kernel, by decide, q3877, q175⟩
abbrev cX7_hours1 : ByteArray := prog_15_method_27_code
def yX7_hours1 : MethodName := ⟨RX7, "hours1", "(I)I"⟩
def dkwX7_hours1_0 : List UInt8 := [3, 61, 28, 27, 162, 0, 13, 42, 182, 0, 124, 132, 2, 1, 167, 255, 244, 42, 180, 0, 7, 4, 46, 172]
abbrev dktX7_hours1_0 : List UInt8 := dkwX7_hours1_0 ++ []
theorem dksX7_hours1_0 : cX7_hours1.data.toList.drop 0 = dktX7_hours1_0 := by decide +kernel
theorem dX7_hours1_0 : decode cX7_hours1 0 = .ok (.iconst 0, 1) := dk_3 (dk_at dksX7_hours1_0 0 rfl rfl)
theorem dX7_hours1_1 : decode cX7_hours1 1 = .ok (.istore_n 2, 1) := dk_61 (dk_at dksX7_hours1_0 1 rfl rfl)
theorem dX7_hours1_2 : decode cX7_hours1 2 = .ok (.iload_n 2, 1) := dk_28 (dk_at dksX7_hours1_0 2 rfl rfl)
theorem dX7_hours1_3 : decode cX7_hours1 3 = .ok (.iload_n 1, 1) := dk_27 (dk_at dksX7_hours1_0 3 rfl rfl)
theorem dX7_hours1_4 : decode cX7_hours1 4 = .ok (.if_icmp .ge 13, 3) := dk_162 0 13 (dk_at dksX7_hours1_0 4 rfl rfl)
theorem dX7_hours1_7 : decode cX7_hours1 7 = .ok (.aload_n 0, 1) := dk_42 (dk_at dksX7_hours1_0 7 rfl rfl)
theorem dX7_hours1_8 : decode cX7_hours1 8 = .ok (.invokevirtual 124, 3) := dk_182 0 124 (dk_at dksX7_hours1_0 8 rfl rfl)
theorem dX7_hours1_11 : decode cX7_hours1 11 = .ok (.iinc 2 1, 3) := dk_132 2 1 (dk_at dksX7_hours1_0 11 rfl rfl)
theorem dX7_hours1_14 : decode cX7_hours1 14 = .ok (.goto (-12), 3) := dk_167 255 244 (dk_at dksX7_hours1_0 14 rfl rfl)
theorem dX7_hours1_17 : decode cX7_hours1 17 = .ok (.aload_n 0, 1) := dk_42 (dk_at dksX7_hours1_0 17 rfl rfl)
theorem dX7_hours1_18 : decode cX7_hours1 18 = .ok (.getfield 7, 3) := dk_180 0 7 (dk_at dksX7_hours1_0 18 rfl rfl)
theorem dX7_hours1_21 : decode cX7_hours1 21 = .ok (.iconst 1, 1) := dk_4 (dk_at dksX7_hours1_0 21 rfl rfl)
theorem dX7_hours1_22 : decode cX7_hours1 22 = .ok (.iaload, 1) := dk_46 (dk_at dksX7_hours1_0 22 rfl rfl)
theorem dX7_hours1_23 : decode cX7_hours1 23 = .ok (.ireturn, 1) := dk_172 (dk_at dksX7_hours1_0 23 rfl rfl)
abbrev iX7_hours1 : xM := (yX7_hours1, cX7_hours1, 3, (some .int), [])
theorem mX7_hours1 : xOkM iX7_hours1 := ⟨by decide +kernel, by decide, q3881, q175⟩
abbrev cX7_hour1 : ByteArray := prog_15_method_26_code
def yX7_hour1 : MethodName := ⟨RX7, "hour1", "()V"⟩
def dkwX7_hour1_3 : List UInt8 := [46, 162, 0, 15, 42, 28, 27, 182, 0, 121, 132, 2, 1, 167, 255, 236, 177]
abbrev dktX7_hour1_3 : List UInt8 := dkwX7_hour1_3 ++ []
def dkwX7_hour1_2 : List UInt8 := [167, 0, 4, 3, 60, 42, 180, 0, 7, 4, 92, 46, 27, 96, 79, 3, 61, 28, 42, 180, 0, 7, 16, 13]
abbrev dktX7_hour1_2 : List UInt8 := dkwX7_hour1_2 ++ dktX7_hour1_3
def dkwX7_hour1_1 : List UInt8 := [162, 0, 7, 4, 167, 0, 23, 42, 180, 0, 7, 4, 46, 42, 180, 0, 7, 5, 46, 164, 0, 7, 2]
abbrev dktX7_hour1_1 : List UInt8 := dkwX7_hour1_1 ++ dktX7_hour1_2
def dkwX7_hour1_0 : List UInt8 := [42, 180, 0, 7, 3, 92, 46, 4, 96, 79, 42, 180, 0, 7, 4, 46, 42, 180, 0, 7, 5, 46]
abbrev dktX7_hour1_0 : List UInt8 := dkwX7_hour1_0 ++ dktX7_hour1_1
theorem dksX7_hour1_0 : cX7_hour1.data.toList.drop 0 = dktX7_hour1_0 := by decide +kernel
theorem dksX7_hour1_1 : cX7_hour1.data.toList.drop 22 = dktX7_hour1_1 := dk_seg dksX7_hour1_0 22 rfl rfl
theorem dksX7_hour1_2 : cX7_hour1.data.toList.drop 45 = dktX7_hour1_2 := dk_seg dksX7_hour1_1 23 rfl rfl
theorem dksX7_hour1_3 : cX7_hour1.data.toList.drop 69 = dktX7_hour1_3 := dk_seg dksX7_hour1_2 24 rfl rfl
theorem dX7_hour1_0 : decode cX7_hour1 0 = .ok (.aload_n 0, 1) := dk_42 (dk_at dksX7_hour1_0 0 rfl rfl)
theorem dX7_hour1_1 : decode cX7_hour1 1 = .ok (.getfield 7, 3) := dk_180 0 7 (dk_at dksX7_hour1_0 1 rfl rfl)
theorem dX7_hour1_4 : decode cX7_hour1 4 = .ok (.iconst 0, 1) := dk_3 (dk_at dksX7_hour1_0 4 rfl rfl)
theorem dX7_hour1_5 : decode cX7_hour1 5 = .ok (.dup2, 1) := dk_92 (dk_at dksX7_hour1_0 5 rfl rfl)
theorem dX7_hour1_6 : decode cX7_hour1 6 = .ok (.iaload, 1) := dk_46 (dk_at dksX7_hour1_0 6 rfl rfl)
theorem dX7_hour1_7 : decode cX7_hour1 7 = .ok (.iconst 1, 1) := dk_4 (dk_at dksX7_hour1_0 7 rfl rfl)
theorem dX7_hour1_8 : decode cX7_hour1 8 = .ok (.iadd, 1) := dk_96 (dk_at dksX7_hour1_0 8 rfl rfl)
theorem dX7_hour1_9 : decode cX7_hour1 9 = .ok (.iastore, 1) := dk_79 (dk_at dksX7_hour1_0 9 rfl rfl)
theorem dX7_hour1_10 : decode cX7_hour1 10 = .ok (.aload_n 0, 1) := dk_42 (dk_at dksX7_hour1_0 10 rfl rfl)
theorem dX7_hour1_11 : decode cX7_hour1 11 = .ok (.getfield 7, 3) := dk_180 0 7 (dk_at dksX7_hour1_0 11 rfl rfl)
theorem dX7_hour1_14 : decode cX7_hour1 14 = .ok (.iconst 1, 1) := dk_4 (dk_at dksX7_hour1_0 14 rfl rfl)
theorem dX7_hour1_15 : decode cX7_hour1 15 = .ok (.iaload, 1) := dk_46 (dk_at dksX7_hour1_0 15 rfl rfl)
theorem dX7_hour1_16 : decode cX7_hour1 16 = .ok (.aload_n 0, 1) := dk_42 (dk_at dksX7_hour1_0 16 rfl rfl)
theorem dX7_hour1_17 : decode cX7_hour1 17 = .ok (.getfield 7, 3) := dk_180 0 7 (dk_at dksX7_hour1_0 17 rfl rfl)
theorem dX7_hour1_20 : decode cX7_hour1 20 = .ok (.iconst 2, 1) := dk_5 (dk_at dksX7_hour1_0 20 rfl rfl)
theorem dX7_hour1_21 : decode cX7_hour1 21 = .ok (.iaload, 1) := dk_46 (dk_at dksX7_hour1_0 21 rfl rfl)
theorem dX7_hour1_22 : decode cX7_hour1 22 = .ok (.if_icmp .ge 7, 3) := dk_162 0 7 (dk_at dksX7_hour1_1 0 rfl rfl)
theorem dX7_hour1_25 : decode cX7_hour1 25 = .ok (.iconst 1, 1) := dk_4 (dk_at dksX7_hour1_1 3 rfl rfl)
theorem dX7_hour1_26 : decode cX7_hour1 26 = .ok (.goto 23, 3) := dk_167 0 23 (dk_at dksX7_hour1_1 4 rfl rfl)
theorem dX7_hour1_29 : decode cX7_hour1 29 = .ok (.aload_n 0, 1) := dk_42 (dk_at dksX7_hour1_1 7 rfl rfl)
theorem dX7_hour1_30 : decode cX7_hour1 30 = .ok (.getfield 7, 3) := dk_180 0 7 (dk_at dksX7_hour1_1 8 rfl rfl)
theorem dX7_hour1_33 : decode cX7_hour1 33 = .ok (.iconst 1, 1) := dk_4 (dk_at dksX7_hour1_1 11 rfl rfl)
theorem dX7_hour1_34 : decode cX7_hour1 34 = .ok (.iaload, 1) := dk_46 (dk_at dksX7_hour1_1 12 rfl rfl)
theorem dX7_hour1_35 : decode cX7_hour1 35 = .ok (.aload_n 0, 1) := dk_42 (dk_at dksX7_hour1_1 13 rfl rfl)
theorem dX7_hour1_36 : decode cX7_hour1 36 = .ok (.getfield 7, 3) := dk_180 0 7 (dk_at dksX7_hour1_1 14 rfl rfl)
theorem dX7_hour1_39 : decode cX7_hour1 39 = .ok (.iconst 2, 1) := dk_5 (dk_at dksX7_hour1_1 17 rfl rfl)
theorem dX7_hour1_40 : decode cX7_hour1 40 = .ok (.iaload, 1) := dk_46 (dk_at dksX7_hour1_1 18 rfl rfl)
theorem dX7_hour1_41 : decode cX7_hour1 41 = .ok (.if_icmp .le 7, 3) := dk_164 0 7 (dk_at dksX7_hour1_1 19 rfl rfl)
theorem dX7_hour1_44 : decode cX7_hour1 44 = .ok (.iconst (-1), 1) := dk_2 (dk_at dksX7_hour1_1 22 rfl rfl)
theorem dX7_hour1_45 : decode cX7_hour1 45 = .ok (.goto 4, 3) := dk_167 0 4 (dk_at dksX7_hour1_2 0 rfl rfl)
theorem dX7_hour1_48 : decode cX7_hour1 48 = .ok (.iconst 0, 1) := dk_3 (dk_at dksX7_hour1_2 3 rfl rfl)
theorem dX7_hour1_49 : decode cX7_hour1 49 = .ok (.istore_n 1, 1) := dk_60 (dk_at dksX7_hour1_2 4 rfl rfl)
theorem dX7_hour1_50 : decode cX7_hour1 50 = .ok (.aload_n 0, 1) := dk_42 (dk_at dksX7_hour1_2 5 rfl rfl)
theorem dX7_hour1_51 : decode cX7_hour1 51 = .ok (.getfield 7, 3) := dk_180 0 7 (dk_at dksX7_hour1_2 6 rfl rfl)
theorem dX7_hour1_54 : decode cX7_hour1 54 = .ok (.iconst 1, 1) := dk_4 (dk_at dksX7_hour1_2 9 rfl rfl)
theorem dX7_hour1_55 : decode cX7_hour1 55 = .ok (.dup2, 1) := dk_92 (dk_at dksX7_hour1_2 10 rfl rfl)
theorem dX7_hour1_56 : decode cX7_hour1 56 = .ok (.iaload, 1) := dk_46 (dk_at dksX7_hour1_2 11 rfl rfl)
theorem dX7_hour1_57 : decode cX7_hour1 57 = .ok (.iload_n 1, 1) := dk_27 (dk_at dksX7_hour1_2 12 rfl rfl)
theorem dX7_hour1_58 : decode cX7_hour1 58 = .ok (.iadd, 1) := dk_96 (dk_at dksX7_hour1_2 13 rfl rfl)
theorem dX7_hour1_59 : decode cX7_hour1 59 = .ok (.iastore, 1) := dk_79 (dk_at dksX7_hour1_2 14 rfl rfl)
theorem dX7_hour1_60 : decode cX7_hour1 60 = .ok (.iconst 0, 1) := dk_3 (dk_at dksX7_hour1_2 15 rfl rfl)
theorem dX7_hour1_61 : decode cX7_hour1 61 = .ok (.istore_n 2, 1) := dk_61 (dk_at dksX7_hour1_2 16 rfl rfl)
theorem dX7_hour1_62 : decode cX7_hour1 62 = .ok (.iload_n 2, 1) := dk_28 (dk_at dksX7_hour1_2 17 rfl rfl)
theorem dX7_hour1_63 : decode cX7_hour1 63 = .ok (.aload_n 0, 1) := dk_42 (dk_at dksX7_hour1_2 18 rfl rfl)
theorem dX7_hour1_64 : decode cX7_hour1 64 = .ok (.getfield 7, 3) := dk_180 0 7 (dk_at dksX7_hour1_2 19 rfl rfl)
theorem dX7_hour1_67 : decode cX7_hour1 67 = .ok (.bipush 13, 2) := dk_16 13 (dk_at dksX7_hour1_2 22 rfl rfl)
theorem dX7_hour1_69 : decode cX7_hour1 69 = .ok (.iaload, 1) := dk_46 (dk_at dksX7_hour1_3 0 rfl rfl)
theorem dX7_hour1_70 : decode cX7_hour1 70 = .ok (.if_icmp .ge 15, 3) := dk_162 0 15 (dk_at dksX7_hour1_3 1 rfl rfl)
theorem dX7_hour1_73 : decode cX7_hour1 73 = .ok (.aload_n 0, 1) := dk_42 (dk_at dksX7_hour1_3 4 rfl rfl)
theorem dX7_hour1_74 : decode cX7_hour1 74 = .ok (.iload_n 2, 1) := dk_28 (dk_at dksX7_hour1_3 5 rfl rfl)
theorem dX7_hour1_75 : decode cX7_hour1 75 = .ok (.iload_n 1, 1) := dk_27 (dk_at dksX7_hour1_3 6 rfl rfl)
theorem dX7_hour1_76 : decode cX7_hour1 76 = .ok (.invokevirtual 121, 3) := dk_182 0 121 (dk_at dksX7_hour1_3 7 rfl rfl)
theorem dX7_hour1_79 : decode cX7_hour1 79 = .ok (.iinc 2 1, 3) := dk_132 2 1 (dk_at dksX7_hour1_3 10 rfl rfl)
theorem dX7_hour1_82 : decode cX7_hour1 82 = .ok (.goto (-20), 3) := dk_167 255 236 (dk_at dksX7_hour1_3 13 rfl rfl)
theorem dX7_hour1_85 : decode cX7_hour1 85 = .ok (.return_, 1) := dk_177 (dk_at dksX7_hour1_3 16 rfl rfl)
abbrev iX7_hour1 : xM := (yX7_hour1, cX7_hour1, 3, none, [])
theorem mX7_hour1 : xOkM iX7_hour1 := ⟨by decide +kernel, by decide, q3885, q175⟩
abbrev cX7_hourOf : ByteArray := prog_15_method_25_code
def yX7_hourOf : MethodName := ⟨RX7, "hourOf", "(II)V"⟩
def dkwX7_hourOf_2 : List UInt8 := [182, 0, 75, 100, 184, 0, 82, 116, 182, 0, 78, 132, 3, 1, 167, 255, 196, 177]
abbrev dktX7_hourOf_2 : List UInt8 := dkwX7_hourOf_2 ++ []
def dkwX7_hourOf_1 : List UInt8 := [42, 180, 0, 7, 16, 9, 29, 96, 46, 104, 182, 0, 78, 42, 27, 29, 3, 8, 42, 27, 16, 17, 29, 96]
abbrev dktX7_hourOf_1 : List UInt8 := dkwX7_hourOf_1 ++ dktX7_hourOf_2
def dkwX7_hourOf_0 : List UInt8 := [3, 62, 29, 7, 162, 0, 61, 42, 27, 29, 182, 0, 85, 153, 0, 6, 167, 0, 43, 42, 27, 29, 28, 116]
abbrev dktX7_hourOf_0 : List UInt8 := dkwX7_hourOf_0 ++ dktX7_hourOf_1
theorem dksX7_hourOf_0 : cX7_hourOf.data.toList.drop 0 = dktX7_hourOf_0 := by decide +kernel
theorem dksX7_hourOf_1 : cX7_hourOf.data.toList.drop 24 = dktX7_hourOf_1 := dk_seg dksX7_hourOf_0 24 rfl rfl
theorem dksX7_hourOf_2 : cX7_hourOf.data.toList.drop 48 = dktX7_hourOf_2 := dk_seg dksX7_hourOf_1 24 rfl rfl
theorem dX7_hourOf_0 : decode cX7_hourOf 0 = .ok (.iconst 0, 1) := dk_3 (dk_at dksX7_hourOf_0 0 rfl rfl)
theorem dX7_hourOf_1 : decode cX7_hourOf 1 = .ok (.istore_n 3, 1) := dk_62 (dk_at dksX7_hourOf_0 1 rfl rfl)
theorem dX7_hourOf_2 : decode cX7_hourOf 2 = .ok (.iload_n 3, 1) := dk_29 (dk_at dksX7_hourOf_0 2 rfl rfl)
theorem dX7_hourOf_3 : decode cX7_hourOf 3 = .ok (.iconst 4, 1) := dk_7 (dk_at dksX7_hourOf_0 3 rfl rfl)
theorem dX7_hourOf_4 : decode cX7_hourOf 4 = .ok (.if_icmp .ge 61, 3) := dk_162 0 61 (dk_at dksX7_hourOf_0 4 rfl rfl)
theorem dX7_hourOf_7 : decode cX7_hourOf 7 = .ok (.aload_n 0, 1) := dk_42 (dk_at dksX7_hourOf_0 7 rfl rfl)
theorem dX7_hourOf_8 : decode cX7_hourOf 8 = .ok (.iload_n 1, 1) := dk_27 (dk_at dksX7_hourOf_0 8 rfl rfl)
theorem dX7_hourOf_9 : decode cX7_hourOf 9 = .ok (.iload_n 3, 1) := dk_29 (dk_at dksX7_hourOf_0 9 rfl rfl)
theorem dX7_hourOf_10 : decode cX7_hourOf 10 = .ok (.invokevirtual 85, 3) := dk_182 0 85 (dk_at dksX7_hourOf_0 10 rfl rfl)
theorem dX7_hourOf_13 : decode cX7_hourOf 13 = .ok (.ifCond .eq 6, 3) := dk_153 0 6 (dk_at dksX7_hourOf_0 13 rfl rfl)
theorem dX7_hourOf_16 : decode cX7_hourOf 16 = .ok (.goto 43, 3) := dk_167 0 43 (dk_at dksX7_hourOf_0 16 rfl rfl)
theorem dX7_hourOf_19 : decode cX7_hourOf 19 = .ok (.aload_n 0, 1) := dk_42 (dk_at dksX7_hourOf_0 19 rfl rfl)
theorem dX7_hourOf_20 : decode cX7_hourOf 20 = .ok (.iload_n 1, 1) := dk_27 (dk_at dksX7_hourOf_0 20 rfl rfl)
theorem dX7_hourOf_21 : decode cX7_hourOf 21 = .ok (.iload_n 3, 1) := dk_29 (dk_at dksX7_hourOf_0 21 rfl rfl)
theorem dX7_hourOf_22 : decode cX7_hourOf 22 = .ok (.iload_n 2, 1) := dk_28 (dk_at dksX7_hourOf_0 22 rfl rfl)
theorem dX7_hourOf_23 : decode cX7_hourOf 23 = .ok (.ineg, 1) := dk_116 (dk_at dksX7_hourOf_0 23 rfl rfl)
theorem dX7_hourOf_24 : decode cX7_hourOf 24 = .ok (.aload_n 0, 1) := dk_42 (dk_at dksX7_hourOf_1 0 rfl rfl)
theorem dX7_hourOf_25 : decode cX7_hourOf 25 = .ok (.getfield 7, 3) := dk_180 0 7 (dk_at dksX7_hourOf_1 1 rfl rfl)
theorem dX7_hourOf_28 : decode cX7_hourOf 28 = .ok (.bipush 9, 2) := dk_16 9 (dk_at dksX7_hourOf_1 4 rfl rfl)
theorem dX7_hourOf_30 : decode cX7_hourOf 30 = .ok (.iload_n 3, 1) := dk_29 (dk_at dksX7_hourOf_1 6 rfl rfl)
theorem dX7_hourOf_31 : decode cX7_hourOf 31 = .ok (.iadd, 1) := dk_96 (dk_at dksX7_hourOf_1 7 rfl rfl)
theorem dX7_hourOf_32 : decode cX7_hourOf 32 = .ok (.iaload, 1) := dk_46 (dk_at dksX7_hourOf_1 8 rfl rfl)
theorem dX7_hourOf_33 : decode cX7_hourOf 33 = .ok (.imul, 1) := dk_104 (dk_at dksX7_hourOf_1 9 rfl rfl)
theorem dX7_hourOf_34 : decode cX7_hourOf 34 = .ok (.invokevirtual 78, 3) := dk_182 0 78 (dk_at dksX7_hourOf_1 10 rfl rfl)
theorem dX7_hourOf_37 : decode cX7_hourOf 37 = .ok (.aload_n 0, 1) := dk_42 (dk_at dksX7_hourOf_1 13 rfl rfl)
theorem dX7_hourOf_38 : decode cX7_hourOf 38 = .ok (.iload_n 1, 1) := dk_27 (dk_at dksX7_hourOf_1 14 rfl rfl)
theorem dX7_hourOf_39 : decode cX7_hourOf 39 = .ok (.iload_n 3, 1) := dk_29 (dk_at dksX7_hourOf_1 15 rfl rfl)
theorem dX7_hourOf_40 : decode cX7_hourOf 40 = .ok (.iconst 0, 1) := dk_3 (dk_at dksX7_hourOf_1 16 rfl rfl)
theorem dX7_hourOf_41 : decode cX7_hourOf 41 = .ok (.iconst 5, 1) := dk_8 (dk_at dksX7_hourOf_1 17 rfl rfl)
theorem dX7_hourOf_42 : decode cX7_hourOf 42 = .ok (.aload_n 0, 1) := dk_42 (dk_at dksX7_hourOf_1 18 rfl rfl)
theorem dX7_hourOf_43 : decode cX7_hourOf 43 = .ok (.iload_n 1, 1) := dk_27 (dk_at dksX7_hourOf_1 19 rfl rfl)
theorem dX7_hourOf_44 : decode cX7_hourOf 44 = .ok (.bipush 17, 2) := dk_16 17 (dk_at dksX7_hourOf_1 20 rfl rfl)
theorem dX7_hourOf_46 : decode cX7_hourOf 46 = .ok (.iload_n 3, 1) := dk_29 (dk_at dksX7_hourOf_1 22 rfl rfl)
theorem dX7_hourOf_47 : decode cX7_hourOf 47 = .ok (.iadd, 1) := dk_96 (dk_at dksX7_hourOf_1 23 rfl rfl)
theorem dX7_hourOf_48 : decode cX7_hourOf 48 = .ok (.invokevirtual 75, 3) := dk_182 0 75 (dk_at dksX7_hourOf_2 0 rfl rfl)
theorem dX7_hourOf_51 : decode cX7_hourOf 51 = .ok (.isub, 1) := dk_100 (dk_at dksX7_hourOf_2 3 rfl rfl)
theorem dX7_hourOf_52 : decode cX7_hourOf 52 = .ok (.invokestatic 82, 3) := dk_184 0 82 (dk_at dksX7_hourOf_2 4 rfl rfl)
theorem dX7_hourOf_55 : decode cX7_hourOf 55 = .ok (.ineg, 1) := dk_116 (dk_at dksX7_hourOf_2 7 rfl rfl)
theorem dX7_hourOf_56 : decode cX7_hourOf 56 = .ok (.invokevirtual 78, 3) := dk_182 0 78 (dk_at dksX7_hourOf_2 8 rfl rfl)
theorem dX7_hourOf_59 : decode cX7_hourOf 59 = .ok (.iinc 3 1, 3) := dk_132 3 1 (dk_at dksX7_hourOf_2 11 rfl rfl)
theorem dX7_hourOf_62 : decode cX7_hourOf 62 = .ok (.goto (-60), 3) := dk_167 255 196 (dk_at dksX7_hourOf_2 14 rfl rfl)
theorem dX7_hourOf_65 : decode cX7_hourOf 65 = .ok (.return_, 1) := dk_177 (dk_at dksX7_hourOf_2 17 rfl rfl)
abbrev iX7_hourOf : xM := (yX7_hourOf, cX7_hourOf, 4, none, [])
theorem mX7_hourOf : xOkM iX7_hourOf := ⟨by decide +kernel, by decide, q3889, q175⟩
abbrev cX7_round : ByteArray := prog_15_method_24_code
def yX7_round : MethodName := ⟨RX7, "round", "()I"⟩
def dkwX7_round_5 : List UInt8 := [160, 0, 7, 29, 167, 0, 4, 27, 60, 132, 2, 1, 167, 255, 210, 42, 182, 0, 117, 172]
abbrev dktX7_round_5 : List UInt8 := dkwX7_round_5 ++ []
def dkwX7_round_4 : List UInt8 := [180, 0, 7, 16, 20, 28, 96, 46, 62, 42, 29, 27, 182, 0, 114, 42, 29, 5, 182, 0, 75, 4]
abbrev dktX7_round_4 : List UInt8 := dkwX7_round_4 ++ dktX7_round_5
def dkwX7_round_3 : List UInt8 := [79, 132, 1, 1, 167, 255, 202, 16, 254, 60, 3, 61, 28, 42, 180, 0, 7, 16, 14, 46, 162, 0, 41, 42]
abbrev dktX7_round_3 : List UInt8 := dkwX7_round_3 ++ dktX7_round_4
def dkwX7_round_2 : List UInt8 := [27, 6, 184, 0, 65, 2, 79, 42, 180, 0, 7, 27, 7, 184, 0, 65, 3, 79, 42, 180, 0, 29, 27, 4]
abbrev dktX7_round_2 : List UInt8 := dkwX7_round_2 ++ dktX7_round_3
def dkwX7_round_1 : List UInt8 := [180, 0, 7, 16, 13, 46, 162, 0, 49, 42, 180, 0, 7, 27, 5, 184, 0, 65, 3, 79, 42, 180, 0, 7]
abbrev dktX7_round_1 : List UInt8 := dkwX7_round_1 ++ dktX7_round_2
def dkwX7_round_0 : List UInt8 := [42, 180, 0, 7, 16, 15, 92, 46, 4, 96, 79, 42, 180, 0, 7, 16, 19, 3, 79, 3, 60, 27, 42]
abbrev dktX7_round_0 : List UInt8 := dkwX7_round_0 ++ dktX7_round_1
theorem dksX7_round_0 : cX7_round.data.toList.drop 0 = dktX7_round_0 := by decide +kernel
theorem dksX7_round_1 : cX7_round.data.toList.drop 23 = dktX7_round_1 := dk_seg dksX7_round_0 23 rfl rfl
theorem dksX7_round_2 : cX7_round.data.toList.drop 47 = dktX7_round_2 := dk_seg dksX7_round_1 24 rfl rfl
theorem dksX7_round_3 : cX7_round.data.toList.drop 71 = dktX7_round_3 := dk_seg dksX7_round_2 24 rfl rfl
theorem dksX7_round_4 : cX7_round.data.toList.drop 95 = dktX7_round_4 := dk_seg dksX7_round_3 24 rfl rfl
theorem dksX7_round_5 : cX7_round.data.toList.drop 117 = dktX7_round_5 := dk_seg dksX7_round_4 22 rfl rfl
theorem dX7_round_0 : decode cX7_round 0 = .ok (.aload_n 0, 1) := dk_42 (dk_at dksX7_round_0 0 rfl rfl)
theorem dX7_round_1 : decode cX7_round 1 = .ok (.getfield 7, 3) := dk_180 0 7 (dk_at dksX7_round_0 1 rfl rfl)
theorem dX7_round_4 : decode cX7_round 4 = .ok (.bipush 15, 2) := dk_16 15 (dk_at dksX7_round_0 4 rfl rfl)
theorem dX7_round_6 : decode cX7_round 6 = .ok (.dup2, 1) := dk_92 (dk_at dksX7_round_0 6 rfl rfl)
theorem dX7_round_7 : decode cX7_round 7 = .ok (.iaload, 1) := dk_46 (dk_at dksX7_round_0 7 rfl rfl)
theorem dX7_round_8 : decode cX7_round 8 = .ok (.iconst 1, 1) := dk_4 (dk_at dksX7_round_0 8 rfl rfl)
theorem dX7_round_9 : decode cX7_round 9 = .ok (.iadd, 1) := dk_96 (dk_at dksX7_round_0 9 rfl rfl)
theorem dX7_round_10 : decode cX7_round 10 = .ok (.iastore, 1) := dk_79 (dk_at dksX7_round_0 10 rfl rfl)
theorem dX7_round_11 : decode cX7_round 11 = .ok (.aload_n 0, 1) := dk_42 (dk_at dksX7_round_0 11 rfl rfl)
theorem dX7_round_12 : decode cX7_round 12 = .ok (.getfield 7, 3) := dk_180 0 7 (dk_at dksX7_round_0 12 rfl rfl)
theorem dX7_round_15 : decode cX7_round 15 = .ok (.bipush 19, 2) := dk_16 19 (dk_at dksX7_round_0 15 rfl rfl)
theorem dX7_round_17 : decode cX7_round 17 = .ok (.iconst 0, 1) := dk_3 (dk_at dksX7_round_0 17 rfl rfl)
theorem dX7_round_18 : decode cX7_round 18 = .ok (.iastore, 1) := dk_79 (dk_at dksX7_round_0 18 rfl rfl)
theorem dX7_round_19 : decode cX7_round 19 = .ok (.iconst 0, 1) := dk_3 (dk_at dksX7_round_0 19 rfl rfl)
theorem dX7_round_20 : decode cX7_round 20 = .ok (.istore_n 1, 1) := dk_60 (dk_at dksX7_round_0 20 rfl rfl)
theorem dX7_round_21 : decode cX7_round 21 = .ok (.iload_n 1, 1) := dk_27 (dk_at dksX7_round_0 21 rfl rfl)
theorem dX7_round_22 : decode cX7_round 22 = .ok (.aload_n 0, 1) := dk_42 (dk_at dksX7_round_0 22 rfl rfl)
theorem dX7_round_23 : decode cX7_round 23 = .ok (.getfield 7, 3) := dk_180 0 7 (dk_at dksX7_round_1 0 rfl rfl)
theorem dX7_round_26 : decode cX7_round 26 = .ok (.bipush 13, 2) := dk_16 13 (dk_at dksX7_round_1 3 rfl rfl)
theorem dX7_round_28 : decode cX7_round 28 = .ok (.iaload, 1) := dk_46 (dk_at dksX7_round_1 5 rfl rfl)
theorem dX7_round_29 : decode cX7_round 29 = .ok (.if_icmp .ge 49, 3) := dk_162 0 49 (dk_at dksX7_round_1 6 rfl rfl)
theorem dX7_round_32 : decode cX7_round 32 = .ok (.aload_n 0, 1) := dk_42 (dk_at dksX7_round_1 9 rfl rfl)
theorem dX7_round_33 : decode cX7_round 33 = .ok (.getfield 7, 3) := dk_180 0 7 (dk_at dksX7_round_1 10 rfl rfl)
theorem dX7_round_36 : decode cX7_round 36 = .ok (.iload_n 1, 1) := dk_27 (dk_at dksX7_round_1 13 rfl rfl)
theorem dX7_round_37 : decode cX7_round 37 = .ok (.iconst 2, 1) := dk_5 (dk_at dksX7_round_1 14 rfl rfl)
theorem dX7_round_38 : decode cX7_round 38 = .ok (.invokestatic 65, 3) := dk_184 0 65 (dk_at dksX7_round_1 15 rfl rfl)
theorem dX7_round_41 : decode cX7_round 41 = .ok (.iconst 0, 1) := dk_3 (dk_at dksX7_round_1 18 rfl rfl)
theorem dX7_round_42 : decode cX7_round 42 = .ok (.iastore, 1) := dk_79 (dk_at dksX7_round_1 19 rfl rfl)
theorem dX7_round_43 : decode cX7_round 43 = .ok (.aload_n 0, 1) := dk_42 (dk_at dksX7_round_1 20 rfl rfl)
theorem dX7_round_44 : decode cX7_round 44 = .ok (.getfield 7, 3) := dk_180 0 7 (dk_at dksX7_round_1 21 rfl rfl)
theorem dX7_round_47 : decode cX7_round 47 = .ok (.iload_n 1, 1) := dk_27 (dk_at dksX7_round_2 0 rfl rfl)
theorem dX7_round_48 : decode cX7_round 48 = .ok (.iconst 3, 1) := dk_6 (dk_at dksX7_round_2 1 rfl rfl)
theorem dX7_round_49 : decode cX7_round 49 = .ok (.invokestatic 65, 3) := dk_184 0 65 (dk_at dksX7_round_2 2 rfl rfl)
theorem dX7_round_52 : decode cX7_round 52 = .ok (.iconst (-1), 1) := dk_2 (dk_at dksX7_round_2 5 rfl rfl)
theorem dX7_round_53 : decode cX7_round 53 = .ok (.iastore, 1) := dk_79 (dk_at dksX7_round_2 6 rfl rfl)
theorem dX7_round_54 : decode cX7_round 54 = .ok (.aload_n 0, 1) := dk_42 (dk_at dksX7_round_2 7 rfl rfl)
theorem dX7_round_55 : decode cX7_round 55 = .ok (.getfield 7, 3) := dk_180 0 7 (dk_at dksX7_round_2 8 rfl rfl)
theorem dX7_round_58 : decode cX7_round 58 = .ok (.iload_n 1, 1) := dk_27 (dk_at dksX7_round_2 11 rfl rfl)
theorem dX7_round_59 : decode cX7_round 59 = .ok (.iconst 4, 1) := dk_7 (dk_at dksX7_round_2 12 rfl rfl)
theorem dX7_round_60 : decode cX7_round 60 = .ok (.invokestatic 65, 3) := dk_184 0 65 (dk_at dksX7_round_2 13 rfl rfl)
theorem dX7_round_63 : decode cX7_round 63 = .ok (.iconst 0, 1) := dk_3 (dk_at dksX7_round_2 16 rfl rfl)
theorem dX7_round_64 : decode cX7_round 64 = .ok (.iastore, 1) := dk_79 (dk_at dksX7_round_2 17 rfl rfl)
theorem dX7_round_65 : decode cX7_round 65 = .ok (.aload_n 0, 1) := dk_42 (dk_at dksX7_round_2 18 rfl rfl)
theorem dX7_round_66 : decode cX7_round 66 = .ok (.getfield 29, 3) := dk_180 0 29 (dk_at dksX7_round_2 19 rfl rfl)
theorem dX7_round_69 : decode cX7_round 69 = .ok (.iload_n 1, 1) := dk_27 (dk_at dksX7_round_2 22 rfl rfl)
theorem dX7_round_70 : decode cX7_round 70 = .ok (.iconst 1, 1) := dk_4 (dk_at dksX7_round_2 23 rfl rfl)
theorem dX7_round_71 : decode cX7_round 71 = .ok (.iastore, 1) := dk_79 (dk_at dksX7_round_3 0 rfl rfl)
theorem dX7_round_72 : decode cX7_round 72 = .ok (.iinc 1 1, 3) := dk_132 1 1 (dk_at dksX7_round_3 1 rfl rfl)
theorem dX7_round_75 : decode cX7_round 75 = .ok (.goto (-54), 3) := dk_167 255 202 (dk_at dksX7_round_3 4 rfl rfl)
theorem dX7_round_78 : decode cX7_round 78 = .ok (.bipush (-2), 2) := dk_16 254 (dk_at dksX7_round_3 7 rfl rfl)
theorem dX7_round_80 : decode cX7_round 80 = .ok (.istore_n 1, 1) := dk_60 (dk_at dksX7_round_3 9 rfl rfl)
theorem dX7_round_81 : decode cX7_round 81 = .ok (.iconst 0, 1) := dk_3 (dk_at dksX7_round_3 10 rfl rfl)
theorem dX7_round_82 : decode cX7_round 82 = .ok (.istore_n 2, 1) := dk_61 (dk_at dksX7_round_3 11 rfl rfl)
theorem dX7_round_83 : decode cX7_round 83 = .ok (.iload_n 2, 1) := dk_28 (dk_at dksX7_round_3 12 rfl rfl)
theorem dX7_round_84 : decode cX7_round 84 = .ok (.aload_n 0, 1) := dk_42 (dk_at dksX7_round_3 13 rfl rfl)
theorem dX7_round_85 : decode cX7_round 85 = .ok (.getfield 7, 3) := dk_180 0 7 (dk_at dksX7_round_3 14 rfl rfl)
theorem dX7_round_88 : decode cX7_round 88 = .ok (.bipush 14, 2) := dk_16 14 (dk_at dksX7_round_3 17 rfl rfl)
theorem dX7_round_90 : decode cX7_round 90 = .ok (.iaload, 1) := dk_46 (dk_at dksX7_round_3 19 rfl rfl)
theorem dX7_round_91 : decode cX7_round 91 = .ok (.if_icmp .ge 41, 3) := dk_162 0 41 (dk_at dksX7_round_3 20 rfl rfl)
theorem dX7_round_94 : decode cX7_round 94 = .ok (.aload_n 0, 1) := dk_42 (dk_at dksX7_round_3 23 rfl rfl)
theorem dX7_round_95 : decode cX7_round 95 = .ok (.getfield 7, 3) := dk_180 0 7 (dk_at dksX7_round_4 0 rfl rfl)
theorem dX7_round_98 : decode cX7_round 98 = .ok (.bipush 20, 2) := dk_16 20 (dk_at dksX7_round_4 3 rfl rfl)
theorem dX7_round_100 : decode cX7_round 100 = .ok (.iload_n 2, 1) := dk_28 (dk_at dksX7_round_4 5 rfl rfl)
theorem dX7_round_101 : decode cX7_round 101 = .ok (.iadd, 1) := dk_96 (dk_at dksX7_round_4 6 rfl rfl)
theorem dX7_round_102 : decode cX7_round 102 = .ok (.iaload, 1) := dk_46 (dk_at dksX7_round_4 7 rfl rfl)
theorem dX7_round_103 : decode cX7_round 103 = .ok (.istore_n 3, 1) := dk_62 (dk_at dksX7_round_4 8 rfl rfl)
theorem dX7_round_104 : decode cX7_round 104 = .ok (.aload_n 0, 1) := dk_42 (dk_at dksX7_round_4 9 rfl rfl)
theorem dX7_round_105 : decode cX7_round 105 = .ok (.iload_n 3, 1) := dk_29 (dk_at dksX7_round_4 10 rfl rfl)
theorem dX7_round_106 : decode cX7_round 106 = .ok (.iload_n 1, 1) := dk_27 (dk_at dksX7_round_4 11 rfl rfl)
theorem dX7_round_107 : decode cX7_round 107 = .ok (.invokevirtual 114, 3) := dk_182 0 114 (dk_at dksX7_round_4 12 rfl rfl)
theorem dX7_round_110 : decode cX7_round 110 = .ok (.aload_n 0, 1) := dk_42 (dk_at dksX7_round_4 15 rfl rfl)
theorem dX7_round_111 : decode cX7_round 111 = .ok (.iload_n 3, 1) := dk_29 (dk_at dksX7_round_4 16 rfl rfl)
theorem dX7_round_112 : decode cX7_round 112 = .ok (.iconst 2, 1) := dk_5 (dk_at dksX7_round_4 17 rfl rfl)
theorem dX7_round_113 : decode cX7_round 113 = .ok (.invokevirtual 75, 3) := dk_182 0 75 (dk_at dksX7_round_4 18 rfl rfl)
theorem dX7_round_116 : decode cX7_round 116 = .ok (.iconst 1, 1) := dk_4 (dk_at dksX7_round_4 21 rfl rfl)
theorem dX7_round_117 : decode cX7_round 117 = .ok (.if_icmp .ne 7, 3) := dk_160 0 7 (dk_at dksX7_round_5 0 rfl rfl)
theorem dX7_round_120 : decode cX7_round 120 = .ok (.iload_n 3, 1) := dk_29 (dk_at dksX7_round_5 3 rfl rfl)
theorem dX7_round_121 : decode cX7_round 121 = .ok (.goto 4, 3) := dk_167 0 4 (dk_at dksX7_round_5 4 rfl rfl)
theorem dX7_round_124 : decode cX7_round 124 = .ok (.iload_n 1, 1) := dk_27 (dk_at dksX7_round_5 7 rfl rfl)
theorem dX7_round_125 : decode cX7_round 125 = .ok (.istore_n 1, 1) := dk_60 (dk_at dksX7_round_5 8 rfl rfl)
theorem dX7_round_126 : decode cX7_round 126 = .ok (.iinc 2 1, 3) := dk_132 2 1 (dk_at dksX7_round_5 9 rfl rfl)
theorem dX7_round_129 : decode cX7_round 129 = .ok (.goto (-46), 3) := dk_167 255 210 (dk_at dksX7_round_5 12 rfl rfl)
theorem dX7_round_132 : decode cX7_round 132 = .ok (.aload_n 0, 1) := dk_42 (dk_at dksX7_round_5 15 rfl rfl)
theorem dX7_round_133 : decode cX7_round 133 = .ok (.invokevirtual 117, 3) := dk_182 0 117 (dk_at dksX7_round_5 16 rfl rfl)
theorem dX7_round_136 : decode cX7_round 136 = .ok (.ireturn, 1) := dk_172 (dk_at dksX7_round_5 19 rfl rfl)
abbrev iX7_round : xM := (yX7_round, cX7_round, 4, (some .int), [])
theorem mX7_round : xOkM iX7_round := ⟨by decide +kernel, by decide, q3893, q175⟩
abbrev cX7_tunesFiddler : ByteArray := prog_15_method_22_code
def yX7_tunesFiddler : MethodName := ⟨RX7, "tunesFiddler", "(II)V"⟩
def dkwX7_tunesFiddler_8 : List UInt8 := [21, 5, 96, 182, 0, 75, 79, 132, 5, 1, 167, 255, 224, 177]
abbrev dktX7_tunesFiddler_8 : List UInt8 := dkwX7_tunesFiddler_8 ++ []
def dkwX7_tunesFiddler_7 : List UInt8 := [54, 5, 21, 5, 7, 162, 0, 32, 42, 180, 0, 7, 27, 8, 21, 5, 96, 184, 0, 65, 42, 27, 16, 9]
abbrev dktX7_tunesFiddler_7 : List UInt8 := dkwX7_tunesFiddler_7 ++ dktX7_tunesFiddler_8
def dkwX7_tunesFiddler_6 : List UInt8 := [3, 167, 0, 21, 28, 16, 254, 160, 0, 7, 4, 167, 0, 11, 4, 42, 28, 7, 182, 0, 75, 96, 79, 3]
abbrev dktX7_tunesFiddler_6 : List UInt8 := dkwX7_tunesFiddler_6 ++ dktX7_tunesFiddler_7
def dkwX7_tunesFiddler_5 : List UInt8 := [180, 0, 7, 27, 6, 184, 0, 65, 28, 79, 42, 180, 0, 7, 27, 7, 184, 0, 65, 21, 4, 154, 0, 7]
abbrev dktX7_tunesFiddler_5 : List UInt8 := dkwX7_tunesFiddler_5 ++ dktX7_tunesFiddler_6
def dkwX7_tunesFiddler_4 : List UInt8 := [167, 0, 4, 3, 54, 4, 42, 180, 0, 7, 27, 5, 184, 0, 65, 21, 4, 184, 0, 110, 79, 42]
abbrev dktX7_tunesFiddler_4 : List UInt8 := dkwX7_tunesFiddler_4 ++ dktX7_tunesFiddler_5
def dkwX7_tunesFiddler_3 : List UInt8 := [180, 0, 29, 27, 46, 79, 132, 4, 1, 167, 255, 195, 42, 180, 0, 29, 27, 46, 154, 0, 7, 4]
abbrev dktX7_tunesFiddler_3 : List UInt8 := dkwX7_tunesFiddler_3 ++ dktX7_tunesFiddler_4
def dkwX7_tunesFiddler_2 : List UInt8 := [54, 5, 42, 180, 0, 29, 27, 42, 180, 0, 29, 27, 46, 154, 0, 8, 21, 5, 167, 0, 9, 42]
abbrev dktX7_tunesFiddler_2 : List UInt8 := dkwX7_tunesFiddler_2 ++ dktX7_tunesFiddler_3
def dkwX7_tunesFiddler_1 : List UInt8 := [42, 27, 21, 4, 28, 42, 27, 4, 182, 0, 75, 42, 180, 0, 7, 16, 16, 46, 100, 29, 96, 182, 0, 106]
abbrev dktX7_tunesFiddler_1 : List UInt8 := dkwX7_tunesFiddler_1 ++ dktX7_tunesFiddler_2
def dkwX7_tunesFiddler_0 : List UInt8 := [42, 180, 0, 7, 16, 16, 46, 62, 42, 180, 0, 29, 27, 3, 79, 3, 54, 4, 21, 4, 7, 162, 0, 61]
abbrev dktX7_tunesFiddler_0 : List UInt8 := dkwX7_tunesFiddler_0 ++ dktX7_tunesFiddler_1
theorem dksX7_tunesFiddler_0 : cX7_tunesFiddler.data.toList.drop 0 = dktX7_tunesFiddler_0 := by decide +kernel
theorem dksX7_tunesFiddler_1 : cX7_tunesFiddler.data.toList.drop 24 = dktX7_tunesFiddler_1 := dk_seg dksX7_tunesFiddler_0 24 rfl rfl
theorem dksX7_tunesFiddler_2 : cX7_tunesFiddler.data.toList.drop 48 = dktX7_tunesFiddler_2 := dk_seg dksX7_tunesFiddler_1 24 rfl rfl
theorem dksX7_tunesFiddler_3 : cX7_tunesFiddler.data.toList.drop 70 = dktX7_tunesFiddler_3 := dk_seg dksX7_tunesFiddler_2 22 rfl rfl
theorem dksX7_tunesFiddler_4 : cX7_tunesFiddler.data.toList.drop 92 = dktX7_tunesFiddler_4 := dk_seg dksX7_tunesFiddler_3 22 rfl rfl
theorem dksX7_tunesFiddler_5 : cX7_tunesFiddler.data.toList.drop 114 = dktX7_tunesFiddler_5 := dk_seg dksX7_tunesFiddler_4 22 rfl rfl
theorem dksX7_tunesFiddler_6 : cX7_tunesFiddler.data.toList.drop 138 = dktX7_tunesFiddler_6 := dk_seg dksX7_tunesFiddler_5 24 rfl rfl
theorem dksX7_tunesFiddler_7 : cX7_tunesFiddler.data.toList.drop 162 = dktX7_tunesFiddler_7 := dk_seg dksX7_tunesFiddler_6 24 rfl rfl
theorem dksX7_tunesFiddler_8 : cX7_tunesFiddler.data.toList.drop 186 = dktX7_tunesFiddler_8 := dk_seg dksX7_tunesFiddler_7 24 rfl rfl
theorem dX7_tunesFiddler_0 : decode cX7_tunesFiddler 0 = .ok (.aload_n 0, 1) := dk_42 (dk_at dksX7_tunesFiddler_0 0 rfl rfl)
theorem dX7_tunesFiddler_1 : decode cX7_tunesFiddler 1 = .ok (.getfield 7, 3) := dk_180 0 7 (dk_at dksX7_tunesFiddler_0 1 rfl rfl)
theorem dX7_tunesFiddler_4 : decode cX7_tunesFiddler 4 = .ok (.bipush 16, 2) := dk_16 16 (dk_at dksX7_tunesFiddler_0 4 rfl rfl)
theorem dX7_tunesFiddler_6 : decode cX7_tunesFiddler 6 = .ok (.iaload, 1) := dk_46 (dk_at dksX7_tunesFiddler_0 6 rfl rfl)
theorem dX7_tunesFiddler_7 : decode cX7_tunesFiddler 7 = .ok (.istore_n 3, 1) := dk_62 (dk_at dksX7_tunesFiddler_0 7 rfl rfl)
theorem dX7_tunesFiddler_8 : decode cX7_tunesFiddler 8 = .ok (.aload_n 0, 1) := dk_42 (dk_at dksX7_tunesFiddler_0 8 rfl rfl)
theorem dX7_tunesFiddler_9 : decode cX7_tunesFiddler 9 = .ok (.getfield 29, 3) := dk_180 0 29 (dk_at dksX7_tunesFiddler_0 9 rfl rfl)
theorem dX7_tunesFiddler_12 : decode cX7_tunesFiddler 12 = .ok (.iload_n 1, 1) := dk_27 (dk_at dksX7_tunesFiddler_0 12 rfl rfl)
theorem dX7_tunesFiddler_13 : decode cX7_tunesFiddler 13 = .ok (.iconst 0, 1) := dk_3 (dk_at dksX7_tunesFiddler_0 13 rfl rfl)
theorem dX7_tunesFiddler_14 : decode cX7_tunesFiddler 14 = .ok (.iastore, 1) := dk_79 (dk_at dksX7_tunesFiddler_0 14 rfl rfl)
theorem dX7_tunesFiddler_15 : decode cX7_tunesFiddler 15 = .ok (.iconst 0, 1) := dk_3 (dk_at dksX7_tunesFiddler_0 15 rfl rfl)
theorem dX7_tunesFiddler_16 : decode cX7_tunesFiddler 16 = .ok (.istore 4, 2) := dk_54 4 (dk_at dksX7_tunesFiddler_0 16 rfl rfl)
theorem dX7_tunesFiddler_18 : decode cX7_tunesFiddler 18 = .ok (.iload 4, 2) := dk_21 4 (dk_at dksX7_tunesFiddler_0 18 rfl rfl)
theorem dX7_tunesFiddler_20 : decode cX7_tunesFiddler 20 = .ok (.iconst 4, 1) := dk_7 (dk_at dksX7_tunesFiddler_0 20 rfl rfl)
theorem dX7_tunesFiddler_21 : decode cX7_tunesFiddler 21 = .ok (.if_icmp .ge 61, 3) := dk_162 0 61 (dk_at dksX7_tunesFiddler_0 21 rfl rfl)
theorem dX7_tunesFiddler_24 : decode cX7_tunesFiddler 24 = .ok (.aload_n 0, 1) := dk_42 (dk_at dksX7_tunesFiddler_1 0 rfl rfl)
theorem dX7_tunesFiddler_25 : decode cX7_tunesFiddler 25 = .ok (.iload_n 1, 1) := dk_27 (dk_at dksX7_tunesFiddler_1 1 rfl rfl)
theorem dX7_tunesFiddler_26 : decode cX7_tunesFiddler 26 = .ok (.iload 4, 2) := dk_21 4 (dk_at dksX7_tunesFiddler_1 2 rfl rfl)
theorem dX7_tunesFiddler_28 : decode cX7_tunesFiddler 28 = .ok (.iload_n 2, 1) := dk_28 (dk_at dksX7_tunesFiddler_1 4 rfl rfl)
theorem dX7_tunesFiddler_29 : decode cX7_tunesFiddler 29 = .ok (.aload_n 0, 1) := dk_42 (dk_at dksX7_tunesFiddler_1 5 rfl rfl)
theorem dX7_tunesFiddler_30 : decode cX7_tunesFiddler 30 = .ok (.iload_n 1, 1) := dk_27 (dk_at dksX7_tunesFiddler_1 6 rfl rfl)
theorem dX7_tunesFiddler_31 : decode cX7_tunesFiddler 31 = .ok (.iconst 1, 1) := dk_4 (dk_at dksX7_tunesFiddler_1 7 rfl rfl)
theorem dX7_tunesFiddler_32 : decode cX7_tunesFiddler 32 = .ok (.invokevirtual 75, 3) := dk_182 0 75 (dk_at dksX7_tunesFiddler_1 8 rfl rfl)
theorem dX7_tunesFiddler_35 : decode cX7_tunesFiddler 35 = .ok (.aload_n 0, 1) := dk_42 (dk_at dksX7_tunesFiddler_1 11 rfl rfl)
theorem dX7_tunesFiddler_36 : decode cX7_tunesFiddler 36 = .ok (.getfield 7, 3) := dk_180 0 7 (dk_at dksX7_tunesFiddler_1 12 rfl rfl)
theorem dX7_tunesFiddler_39 : decode cX7_tunesFiddler 39 = .ok (.bipush 16, 2) := dk_16 16 (dk_at dksX7_tunesFiddler_1 15 rfl rfl)
theorem dX7_tunesFiddler_41 : decode cX7_tunesFiddler 41 = .ok (.iaload, 1) := dk_46 (dk_at dksX7_tunesFiddler_1 17 rfl rfl)
theorem dX7_tunesFiddler_42 : decode cX7_tunesFiddler 42 = .ok (.isub, 1) := dk_100 (dk_at dksX7_tunesFiddler_1 18 rfl rfl)
theorem dX7_tunesFiddler_43 : decode cX7_tunesFiddler 43 = .ok (.iload_n 3, 1) := dk_29 (dk_at dksX7_tunesFiddler_1 19 rfl rfl)
theorem dX7_tunesFiddler_44 : decode cX7_tunesFiddler 44 = .ok (.iadd, 1) := dk_96 (dk_at dksX7_tunesFiddler_1 20 rfl rfl)
theorem dX7_tunesFiddler_45 : decode cX7_tunesFiddler 45 = .ok (.invokevirtual 106, 3) := dk_182 0 106 (dk_at dksX7_tunesFiddler_1 21 rfl rfl)
theorem dX7_tunesFiddler_48 : decode cX7_tunesFiddler 48 = .ok (.istore 5, 2) := dk_54 5 (dk_at dksX7_tunesFiddler_2 0 rfl rfl)
theorem dX7_tunesFiddler_50 : decode cX7_tunesFiddler 50 = .ok (.aload_n 0, 1) := dk_42 (dk_at dksX7_tunesFiddler_2 2 rfl rfl)
theorem dX7_tunesFiddler_51 : decode cX7_tunesFiddler 51 = .ok (.getfield 29, 3) := dk_180 0 29 (dk_at dksX7_tunesFiddler_2 3 rfl rfl)
theorem dX7_tunesFiddler_54 : decode cX7_tunesFiddler 54 = .ok (.iload_n 1, 1) := dk_27 (dk_at dksX7_tunesFiddler_2 6 rfl rfl)
theorem dX7_tunesFiddler_55 : decode cX7_tunesFiddler 55 = .ok (.aload_n 0, 1) := dk_42 (dk_at dksX7_tunesFiddler_2 7 rfl rfl)
theorem dX7_tunesFiddler_56 : decode cX7_tunesFiddler 56 = .ok (.getfield 29, 3) := dk_180 0 29 (dk_at dksX7_tunesFiddler_2 8 rfl rfl)
theorem dX7_tunesFiddler_59 : decode cX7_tunesFiddler 59 = .ok (.iload_n 1, 1) := dk_27 (dk_at dksX7_tunesFiddler_2 11 rfl rfl)
theorem dX7_tunesFiddler_60 : decode cX7_tunesFiddler 60 = .ok (.iaload, 1) := dk_46 (dk_at dksX7_tunesFiddler_2 12 rfl rfl)
theorem dX7_tunesFiddler_61 : decode cX7_tunesFiddler 61 = .ok (.ifCond .ne 8, 3) := dk_154 0 8 (dk_at dksX7_tunesFiddler_2 13 rfl rfl)
theorem dX7_tunesFiddler_64 : decode cX7_tunesFiddler 64 = .ok (.iload 5, 2) := dk_21 5 (dk_at dksX7_tunesFiddler_2 16 rfl rfl)
theorem dX7_tunesFiddler_66 : decode cX7_tunesFiddler 66 = .ok (.goto 9, 3) := dk_167 0 9 (dk_at dksX7_tunesFiddler_2 18 rfl rfl)
theorem dX7_tunesFiddler_69 : decode cX7_tunesFiddler 69 = .ok (.aload_n 0, 1) := dk_42 (dk_at dksX7_tunesFiddler_2 21 rfl rfl)
theorem dX7_tunesFiddler_70 : decode cX7_tunesFiddler 70 = .ok (.getfield 29, 3) := dk_180 0 29 (dk_at dksX7_tunesFiddler_3 0 rfl rfl)
theorem dX7_tunesFiddler_73 : decode cX7_tunesFiddler 73 = .ok (.iload_n 1, 1) := dk_27 (dk_at dksX7_tunesFiddler_3 3 rfl rfl)
theorem dX7_tunesFiddler_74 : decode cX7_tunesFiddler 74 = .ok (.iaload, 1) := dk_46 (dk_at dksX7_tunesFiddler_3 4 rfl rfl)
theorem dX7_tunesFiddler_75 : decode cX7_tunesFiddler 75 = .ok (.iastore, 1) := dk_79 (dk_at dksX7_tunesFiddler_3 5 rfl rfl)
theorem dX7_tunesFiddler_76 : decode cX7_tunesFiddler 76 = .ok (.iinc 4 1, 3) := dk_132 4 1 (dk_at dksX7_tunesFiddler_3 6 rfl rfl)
theorem dX7_tunesFiddler_79 : decode cX7_tunesFiddler 79 = .ok (.goto (-61), 3) := dk_167 255 195 (dk_at dksX7_tunesFiddler_3 9 rfl rfl)
theorem dX7_tunesFiddler_82 : decode cX7_tunesFiddler 82 = .ok (.aload_n 0, 1) := dk_42 (dk_at dksX7_tunesFiddler_3 12 rfl rfl)
theorem dX7_tunesFiddler_83 : decode cX7_tunesFiddler 83 = .ok (.getfield 29, 3) := dk_180 0 29 (dk_at dksX7_tunesFiddler_3 13 rfl rfl)
theorem dX7_tunesFiddler_86 : decode cX7_tunesFiddler 86 = .ok (.iload_n 1, 1) := dk_27 (dk_at dksX7_tunesFiddler_3 16 rfl rfl)
theorem dX7_tunesFiddler_87 : decode cX7_tunesFiddler 87 = .ok (.iaload, 1) := dk_46 (dk_at dksX7_tunesFiddler_3 17 rfl rfl)
theorem dX7_tunesFiddler_88 : decode cX7_tunesFiddler 88 = .ok (.ifCond .ne 7, 3) := dk_154 0 7 (dk_at dksX7_tunesFiddler_3 18 rfl rfl)
theorem dX7_tunesFiddler_91 : decode cX7_tunesFiddler 91 = .ok (.iconst 1, 1) := dk_4 (dk_at dksX7_tunesFiddler_3 21 rfl rfl)
theorem dX7_tunesFiddler_92 : decode cX7_tunesFiddler 92 = .ok (.goto 4, 3) := dk_167 0 4 (dk_at dksX7_tunesFiddler_4 0 rfl rfl)
theorem dX7_tunesFiddler_95 : decode cX7_tunesFiddler 95 = .ok (.iconst 0, 1) := dk_3 (dk_at dksX7_tunesFiddler_4 3 rfl rfl)
theorem dX7_tunesFiddler_96 : decode cX7_tunesFiddler 96 = .ok (.istore 4, 2) := dk_54 4 (dk_at dksX7_tunesFiddler_4 4 rfl rfl)
theorem dX7_tunesFiddler_98 : decode cX7_tunesFiddler 98 = .ok (.aload_n 0, 1) := dk_42 (dk_at dksX7_tunesFiddler_4 6 rfl rfl)
theorem dX7_tunesFiddler_99 : decode cX7_tunesFiddler 99 = .ok (.getfield 7, 3) := dk_180 0 7 (dk_at dksX7_tunesFiddler_4 7 rfl rfl)
theorem dX7_tunesFiddler_102 : decode cX7_tunesFiddler 102 = .ok (.iload_n 1, 1) := dk_27 (dk_at dksX7_tunesFiddler_4 10 rfl rfl)
theorem dX7_tunesFiddler_103 : decode cX7_tunesFiddler 103 = .ok (.iconst 2, 1) := dk_5 (dk_at dksX7_tunesFiddler_4 11 rfl rfl)
theorem dX7_tunesFiddler_104 : decode cX7_tunesFiddler 104 = .ok (.invokestatic 65, 3) := dk_184 0 65 (dk_at dksX7_tunesFiddler_4 12 rfl rfl)
theorem dX7_tunesFiddler_107 : decode cX7_tunesFiddler 107 = .ok (.iload 4, 2) := dk_21 4 (dk_at dksX7_tunesFiddler_4 15 rfl rfl)
theorem dX7_tunesFiddler_109 : decode cX7_tunesFiddler 109 = .ok (.invokestatic 110, 3) := dk_184 0 110 (dk_at dksX7_tunesFiddler_4 17 rfl rfl)
theorem dX7_tunesFiddler_112 : decode cX7_tunesFiddler 112 = .ok (.iastore, 1) := dk_79 (dk_at dksX7_tunesFiddler_4 20 rfl rfl)
theorem dX7_tunesFiddler_113 : decode cX7_tunesFiddler 113 = .ok (.aload_n 0, 1) := dk_42 (dk_at dksX7_tunesFiddler_4 21 rfl rfl)
theorem dX7_tunesFiddler_114 : decode cX7_tunesFiddler 114 = .ok (.getfield 7, 3) := dk_180 0 7 (dk_at dksX7_tunesFiddler_5 0 rfl rfl)
theorem dX7_tunesFiddler_117 : decode cX7_tunesFiddler 117 = .ok (.iload_n 1, 1) := dk_27 (dk_at dksX7_tunesFiddler_5 3 rfl rfl)
theorem dX7_tunesFiddler_118 : decode cX7_tunesFiddler 118 = .ok (.iconst 3, 1) := dk_6 (dk_at dksX7_tunesFiddler_5 4 rfl rfl)
theorem dX7_tunesFiddler_119 : decode cX7_tunesFiddler 119 = .ok (.invokestatic 65, 3) := dk_184 0 65 (dk_at dksX7_tunesFiddler_5 5 rfl rfl)
theorem dX7_tunesFiddler_122 : decode cX7_tunesFiddler 122 = .ok (.iload_n 2, 1) := dk_28 (dk_at dksX7_tunesFiddler_5 8 rfl rfl)
theorem dX7_tunesFiddler_123 : decode cX7_tunesFiddler 123 = .ok (.iastore, 1) := dk_79 (dk_at dksX7_tunesFiddler_5 9 rfl rfl)
theorem dX7_tunesFiddler_124 : decode cX7_tunesFiddler 124 = .ok (.aload_n 0, 1) := dk_42 (dk_at dksX7_tunesFiddler_5 10 rfl rfl)
theorem dX7_tunesFiddler_125 : decode cX7_tunesFiddler 125 = .ok (.getfield 7, 3) := dk_180 0 7 (dk_at dksX7_tunesFiddler_5 11 rfl rfl)
theorem dX7_tunesFiddler_128 : decode cX7_tunesFiddler 128 = .ok (.iload_n 1, 1) := dk_27 (dk_at dksX7_tunesFiddler_5 14 rfl rfl)
theorem dX7_tunesFiddler_129 : decode cX7_tunesFiddler 129 = .ok (.iconst 4, 1) := dk_7 (dk_at dksX7_tunesFiddler_5 15 rfl rfl)
theorem dX7_tunesFiddler_130 : decode cX7_tunesFiddler 130 = .ok (.invokestatic 65, 3) := dk_184 0 65 (dk_at dksX7_tunesFiddler_5 16 rfl rfl)
theorem dX7_tunesFiddler_133 : decode cX7_tunesFiddler 133 = .ok (.iload 4, 2) := dk_21 4 (dk_at dksX7_tunesFiddler_5 19 rfl rfl)
theorem dX7_tunesFiddler_135 : decode cX7_tunesFiddler 135 = .ok (.ifCond .ne 7, 3) := dk_154 0 7 (dk_at dksX7_tunesFiddler_5 21 rfl rfl)
theorem dX7_tunesFiddler_138 : decode cX7_tunesFiddler 138 = .ok (.iconst 0, 1) := dk_3 (dk_at dksX7_tunesFiddler_6 0 rfl rfl)
theorem dX7_tunesFiddler_139 : decode cX7_tunesFiddler 139 = .ok (.goto 21, 3) := dk_167 0 21 (dk_at dksX7_tunesFiddler_6 1 rfl rfl)
theorem dX7_tunesFiddler_142 : decode cX7_tunesFiddler 142 = .ok (.iload_n 2, 1) := dk_28 (dk_at dksX7_tunesFiddler_6 4 rfl rfl)
theorem dX7_tunesFiddler_143 : decode cX7_tunesFiddler 143 = .ok (.bipush (-2), 2) := dk_16 254 (dk_at dksX7_tunesFiddler_6 5 rfl rfl)
theorem dX7_tunesFiddler_145 : decode cX7_tunesFiddler 145 = .ok (.if_icmp .ne 7, 3) := dk_160 0 7 (dk_at dksX7_tunesFiddler_6 7 rfl rfl)
theorem dX7_tunesFiddler_148 : decode cX7_tunesFiddler 148 = .ok (.iconst 1, 1) := dk_4 (dk_at dksX7_tunesFiddler_6 10 rfl rfl)
theorem dX7_tunesFiddler_149 : decode cX7_tunesFiddler 149 = .ok (.goto 11, 3) := dk_167 0 11 (dk_at dksX7_tunesFiddler_6 11 rfl rfl)
theorem dX7_tunesFiddler_152 : decode cX7_tunesFiddler 152 = .ok (.iconst 1, 1) := dk_4 (dk_at dksX7_tunesFiddler_6 14 rfl rfl)
theorem dX7_tunesFiddler_153 : decode cX7_tunesFiddler 153 = .ok (.aload_n 0, 1) := dk_42 (dk_at dksX7_tunesFiddler_6 15 rfl rfl)
theorem dX7_tunesFiddler_154 : decode cX7_tunesFiddler 154 = .ok (.iload_n 2, 1) := dk_28 (dk_at dksX7_tunesFiddler_6 16 rfl rfl)
theorem dX7_tunesFiddler_155 : decode cX7_tunesFiddler 155 = .ok (.iconst 4, 1) := dk_7 (dk_at dksX7_tunesFiddler_6 17 rfl rfl)
theorem dX7_tunesFiddler_156 : decode cX7_tunesFiddler 156 = .ok (.invokevirtual 75, 3) := dk_182 0 75 (dk_at dksX7_tunesFiddler_6 18 rfl rfl)
theorem dX7_tunesFiddler_159 : decode cX7_tunesFiddler 159 = .ok (.iadd, 1) := dk_96 (dk_at dksX7_tunesFiddler_6 21 rfl rfl)
theorem dX7_tunesFiddler_160 : decode cX7_tunesFiddler 160 = .ok (.iastore, 1) := dk_79 (dk_at dksX7_tunesFiddler_6 22 rfl rfl)
theorem dX7_tunesFiddler_161 : decode cX7_tunesFiddler 161 = .ok (.iconst 0, 1) := dk_3 (dk_at dksX7_tunesFiddler_6 23 rfl rfl)
theorem dX7_tunesFiddler_162 : decode cX7_tunesFiddler 162 = .ok (.istore 5, 2) := dk_54 5 (dk_at dksX7_tunesFiddler_7 0 rfl rfl)
theorem dX7_tunesFiddler_164 : decode cX7_tunesFiddler 164 = .ok (.iload 5, 2) := dk_21 5 (dk_at dksX7_tunesFiddler_7 2 rfl rfl)
theorem dX7_tunesFiddler_166 : decode cX7_tunesFiddler 166 = .ok (.iconst 4, 1) := dk_7 (dk_at dksX7_tunesFiddler_7 4 rfl rfl)
theorem dX7_tunesFiddler_167 : decode cX7_tunesFiddler 167 = .ok (.if_icmp .ge 32, 3) := dk_162 0 32 (dk_at dksX7_tunesFiddler_7 5 rfl rfl)
theorem dX7_tunesFiddler_170 : decode cX7_tunesFiddler 170 = .ok (.aload_n 0, 1) := dk_42 (dk_at dksX7_tunesFiddler_7 8 rfl rfl)
theorem dX7_tunesFiddler_171 : decode cX7_tunesFiddler 171 = .ok (.getfield 7, 3) := dk_180 0 7 (dk_at dksX7_tunesFiddler_7 9 rfl rfl)
theorem dX7_tunesFiddler_174 : decode cX7_tunesFiddler 174 = .ok (.iload_n 1, 1) := dk_27 (dk_at dksX7_tunesFiddler_7 12 rfl rfl)
theorem dX7_tunesFiddler_175 : decode cX7_tunesFiddler 175 = .ok (.iconst 5, 1) := dk_8 (dk_at dksX7_tunesFiddler_7 13 rfl rfl)
theorem dX7_tunesFiddler_176 : decode cX7_tunesFiddler 176 = .ok (.iload 5, 2) := dk_21 5 (dk_at dksX7_tunesFiddler_7 14 rfl rfl)
theorem dX7_tunesFiddler_178 : decode cX7_tunesFiddler 178 = .ok (.iadd, 1) := dk_96 (dk_at dksX7_tunesFiddler_7 16 rfl rfl)
theorem dX7_tunesFiddler_179 : decode cX7_tunesFiddler 179 = .ok (.invokestatic 65, 3) := dk_184 0 65 (dk_at dksX7_tunesFiddler_7 17 rfl rfl)
theorem dX7_tunesFiddler_182 : decode cX7_tunesFiddler 182 = .ok (.aload_n 0, 1) := dk_42 (dk_at dksX7_tunesFiddler_7 20 rfl rfl)
theorem dX7_tunesFiddler_183 : decode cX7_tunesFiddler 183 = .ok (.iload_n 1, 1) := dk_27 (dk_at dksX7_tunesFiddler_7 21 rfl rfl)
theorem dX7_tunesFiddler_184 : decode cX7_tunesFiddler 184 = .ok (.bipush 9, 2) := dk_16 9 (dk_at dksX7_tunesFiddler_7 22 rfl rfl)
theorem dX7_tunesFiddler_186 : decode cX7_tunesFiddler 186 = .ok (.iload 5, 2) := dk_21 5 (dk_at dksX7_tunesFiddler_8 0 rfl rfl)
theorem dX7_tunesFiddler_188 : decode cX7_tunesFiddler 188 = .ok (.iadd, 1) := dk_96 (dk_at dksX7_tunesFiddler_8 2 rfl rfl)
theorem dX7_tunesFiddler_189 : decode cX7_tunesFiddler 189 = .ok (.invokevirtual 75, 3) := dk_182 0 75 (dk_at dksX7_tunesFiddler_8 3 rfl rfl)
theorem dX7_tunesFiddler_192 : decode cX7_tunesFiddler 192 = .ok (.iastore, 1) := dk_79 (dk_at dksX7_tunesFiddler_8 6 rfl rfl)
theorem dX7_tunesFiddler_193 : decode cX7_tunesFiddler 193 = .ok (.iinc 5 1, 3) := dk_132 5 1 (dk_at dksX7_tunesFiddler_8 7 rfl rfl)
theorem dX7_tunesFiddler_196 : decode cX7_tunesFiddler 196 = .ok (.goto (-32), 3) := dk_167 255 224 (dk_at dksX7_tunesFiddler_8 10 rfl rfl)
theorem dX7_tunesFiddler_199 : decode cX7_tunesFiddler 199 = .ok (.return_, 1) := dk_177 (dk_at dksX7_tunesFiddler_8 13 rfl rfl)
abbrev iX7_tunesFiddler : xM := (yX7_tunesFiddler, cX7_tunesFiddler, 6, none, [])
theorem mX7_tunesFiddler : xOkM iX7_tunesFiddler := ⟨by decide +kernel, by decide, q3897, q175⟩
abbrev cX7_tunes : ByteArray := prog_15_method_21_code
def yX7_tunes : MethodName := ⟨RX7, "tunes", "(IIII)I"⟩
def dkwX7_tunes_2 : List UInt8 := [157, 0, 5, 6, 172, 42, 27, 28, 21, 5, 116, 182, 0, 100, 42, 27, 28, 29, 182, 0, 103, 172]
abbrev dktX7_tunes_2 : List UInt8 := dkwX7_tunes_2 ++ []
def dkwX7_tunes_1 : List UInt8 := [184, 0, 93, 5, 163, 0, 16, 21, 5, 153, 0, 9, 42, 27, 28, 182, 0, 97, 3, 172, 21, 4]
abbrev dktX7_tunes_1 : List UInt8 := dkwX7_tunes_1 ++ dktX7_tunes_2
def dkwX7_tunes_0 : List UInt8 := [42, 27, 28, 182, 0, 85, 153, 0, 5, 5, 172, 42, 27, 28, 29, 182, 0, 89, 54, 5, 21, 5]
abbrev dktX7_tunes_0 : List UInt8 := dkwX7_tunes_0 ++ dktX7_tunes_1
theorem dksX7_tunes_0 : cX7_tunes.data.toList.drop 0 = dktX7_tunes_0 := by decide +kernel
theorem dksX7_tunes_1 : cX7_tunes.data.toList.drop 22 = dktX7_tunes_1 := dk_seg dksX7_tunes_0 22 rfl rfl
theorem dksX7_tunes_2 : cX7_tunes.data.toList.drop 44 = dktX7_tunes_2 := dk_seg dksX7_tunes_1 22 rfl rfl
theorem dX7_tunes_0 : decode cX7_tunes 0 = .ok (.aload_n 0, 1) := dk_42 (dk_at dksX7_tunes_0 0 rfl rfl)
theorem dX7_tunes_1 : decode cX7_tunes 1 = .ok (.iload_n 1, 1) := dk_27 (dk_at dksX7_tunes_0 1 rfl rfl)
theorem dX7_tunes_2 : decode cX7_tunes 2 = .ok (.iload_n 2, 1) := dk_28 (dk_at dksX7_tunes_0 2 rfl rfl)
theorem dX7_tunes_3 : decode cX7_tunes 3 = .ok (.invokevirtual 85, 3) := dk_182 0 85 (dk_at dksX7_tunes_0 3 rfl rfl)
theorem dX7_tunes_6 : decode cX7_tunes 6 = .ok (.ifCond .eq 5, 3) := dk_153 0 5 (dk_at dksX7_tunes_0 6 rfl rfl)
theorem dX7_tunes_9 : decode cX7_tunes 9 = .ok (.iconst 2, 1) := dk_5 (dk_at dksX7_tunes_0 9 rfl rfl)
theorem dX7_tunes_10 : decode cX7_tunes 10 = .ok (.ireturn, 1) := dk_172 (dk_at dksX7_tunes_0 10 rfl rfl)
theorem dX7_tunes_11 : decode cX7_tunes 11 = .ok (.aload_n 0, 1) := dk_42 (dk_at dksX7_tunes_0 11 rfl rfl)
theorem dX7_tunes_12 : decode cX7_tunes 12 = .ok (.iload_n 1, 1) := dk_27 (dk_at dksX7_tunes_0 12 rfl rfl)
theorem dX7_tunes_13 : decode cX7_tunes 13 = .ok (.iload_n 2, 1) := dk_28 (dk_at dksX7_tunes_0 13 rfl rfl)
theorem dX7_tunes_14 : decode cX7_tunes 14 = .ok (.iload_n 3, 1) := dk_29 (dk_at dksX7_tunes_0 14 rfl rfl)
theorem dX7_tunes_15 : decode cX7_tunes 15 = .ok (.invokevirtual 89, 3) := dk_182 0 89 (dk_at dksX7_tunes_0 15 rfl rfl)
theorem dX7_tunes_18 : decode cX7_tunes 18 = .ok (.istore 5, 2) := dk_54 5 (dk_at dksX7_tunes_0 18 rfl rfl)
theorem dX7_tunes_20 : decode cX7_tunes 20 = .ok (.iload 5, 2) := dk_21 5 (dk_at dksX7_tunes_0 20 rfl rfl)
theorem dX7_tunes_22 : decode cX7_tunes 22 = .ok (.invokestatic 93, 3) := dk_184 0 93 (dk_at dksX7_tunes_1 0 rfl rfl)
theorem dX7_tunes_25 : decode cX7_tunes 25 = .ok (.iconst 2, 1) := dk_5 (dk_at dksX7_tunes_1 3 rfl rfl)
theorem dX7_tunes_26 : decode cX7_tunes 26 = .ok (.if_icmp .gt 16, 3) := dk_163 0 16 (dk_at dksX7_tunes_1 4 rfl rfl)
theorem dX7_tunes_29 : decode cX7_tunes 29 = .ok (.iload 5, 2) := dk_21 5 (dk_at dksX7_tunes_1 7 rfl rfl)
theorem dX7_tunes_31 : decode cX7_tunes 31 = .ok (.ifCond .eq 9, 3) := dk_153 0 9 (dk_at dksX7_tunes_1 9 rfl rfl)
theorem dX7_tunes_34 : decode cX7_tunes 34 = .ok (.aload_n 0, 1) := dk_42 (dk_at dksX7_tunes_1 12 rfl rfl)
theorem dX7_tunes_35 : decode cX7_tunes 35 = .ok (.iload_n 1, 1) := dk_27 (dk_at dksX7_tunes_1 13 rfl rfl)
theorem dX7_tunes_36 : decode cX7_tunes 36 = .ok (.iload_n 2, 1) := dk_28 (dk_at dksX7_tunes_1 14 rfl rfl)
theorem dX7_tunes_37 : decode cX7_tunes 37 = .ok (.invokevirtual 97, 3) := dk_182 0 97 (dk_at dksX7_tunes_1 15 rfl rfl)
theorem dX7_tunes_40 : decode cX7_tunes 40 = .ok (.iconst 0, 1) := dk_3 (dk_at dksX7_tunes_1 18 rfl rfl)
theorem dX7_tunes_41 : decode cX7_tunes 41 = .ok (.ireturn, 1) := dk_172 (dk_at dksX7_tunes_1 19 rfl rfl)
theorem dX7_tunes_42 : decode cX7_tunes 42 = .ok (.iload 4, 2) := dk_21 4 (dk_at dksX7_tunes_1 20 rfl rfl)
theorem dX7_tunes_44 : decode cX7_tunes 44 = .ok (.ifCond .gt 5, 3) := dk_157 0 5 (dk_at dksX7_tunes_2 0 rfl rfl)
theorem dX7_tunes_47 : decode cX7_tunes 47 = .ok (.iconst 3, 1) := dk_6 (dk_at dksX7_tunes_2 3 rfl rfl)
theorem dX7_tunes_48 : decode cX7_tunes 48 = .ok (.ireturn, 1) := dk_172 (dk_at dksX7_tunes_2 4 rfl rfl)
theorem dX7_tunes_49 : decode cX7_tunes 49 = .ok (.aload_n 0, 1) := dk_42 (dk_at dksX7_tunes_2 5 rfl rfl)
theorem dX7_tunes_50 : decode cX7_tunes 50 = .ok (.iload_n 1, 1) := dk_27 (dk_at dksX7_tunes_2 6 rfl rfl)
theorem dX7_tunes_51 : decode cX7_tunes 51 = .ok (.iload_n 2, 1) := dk_28 (dk_at dksX7_tunes_2 7 rfl rfl)
theorem dX7_tunes_52 : decode cX7_tunes 52 = .ok (.iload 5, 2) := dk_21 5 (dk_at dksX7_tunes_2 8 rfl rfl)
theorem dX7_tunes_54 : decode cX7_tunes 54 = .ok (.ineg, 1) := dk_116 (dk_at dksX7_tunes_2 10 rfl rfl)
theorem dX7_tunes_55 : decode cX7_tunes 55 = .ok (.invokevirtual 100, 3) := dk_182 0 100 (dk_at dksX7_tunes_2 11 rfl rfl)
theorem dX7_tunes_58 : decode cX7_tunes 58 = .ok (.aload_n 0, 1) := dk_42 (dk_at dksX7_tunes_2 14 rfl rfl)
theorem dX7_tunes_59 : decode cX7_tunes 59 = .ok (.iload_n 1, 1) := dk_27 (dk_at dksX7_tunes_2 15 rfl rfl)
theorem dX7_tunes_60 : decode cX7_tunes 60 = .ok (.iload_n 2, 1) := dk_28 (dk_at dksX7_tunes_2 16 rfl rfl)
theorem dX7_tunes_61 : decode cX7_tunes 61 = .ok (.iload_n 3, 1) := dk_29 (dk_at dksX7_tunes_2 17 rfl rfl)
theorem dX7_tunes_62 : decode cX7_tunes 62 = .ok (.invokevirtual 103, 3) := dk_182 0 103 (dk_at dksX7_tunes_2 18 rfl rfl)
theorem dX7_tunes_65 : decode cX7_tunes 65 = .ok (.ireturn, 1) := dk_172 (dk_at dksX7_tunes_2 21 rfl rfl)
abbrev iX7_tunes : xM := (yX7_tunes, cX7_tunes, 6, (some .int), [])
theorem mX7_tunes : xOkM iX7_tunes := ⟨by decide +kernel, by decide, q3901, q175⟩
abbrev cX7_difference : ByteArray := prog_15_method_18_code
def yX7_difference : MethodName := ⟨RX7, "difference", "(III)I"⟩
def dkwX7_difference_1 : List UInt8 := [96, 182, 0, 75, 100, 172]
abbrev dktX7_difference_1 : List UInt8 := dkwX7_difference_1 ++ []
def dkwX7_difference_0 : List UInt8 := [42, 27, 16, 9, 28, 96, 182, 0, 75, 29, 16, 254, 160, 0, 7, 3, 167, 0, 12, 42, 29, 16, 9, 28]
abbrev dktX7_difference_0 : List UInt8 := dkwX7_difference_0 ++ dktX7_difference_1
theorem dksX7_difference_0 : cX7_difference.data.toList.drop 0 = dktX7_difference_0 := by decide +kernel
theorem dksX7_difference_1 : cX7_difference.data.toList.drop 24 = dktX7_difference_1 := dk_seg dksX7_difference_0 24 rfl rfl
theorem dX7_difference_0 : decode cX7_difference 0 = .ok (.aload_n 0, 1) := dk_42 (dk_at dksX7_difference_0 0 rfl rfl)
theorem dX7_difference_1 : decode cX7_difference 1 = .ok (.iload_n 1, 1) := dk_27 (dk_at dksX7_difference_0 1 rfl rfl)
theorem dX7_difference_2 : decode cX7_difference 2 = .ok (.bipush 9, 2) := dk_16 9 (dk_at dksX7_difference_0 2 rfl rfl)
theorem dX7_difference_4 : decode cX7_difference 4 = .ok (.iload_n 2, 1) := dk_28 (dk_at dksX7_difference_0 4 rfl rfl)
theorem dX7_difference_5 : decode cX7_difference 5 = .ok (.iadd, 1) := dk_96 (dk_at dksX7_difference_0 5 rfl rfl)
theorem dX7_difference_6 : decode cX7_difference 6 = .ok (.invokevirtual 75, 3) := dk_182 0 75 (dk_at dksX7_difference_0 6 rfl rfl)
theorem dX7_difference_9 : decode cX7_difference 9 = .ok (.iload_n 3, 1) := dk_29 (dk_at dksX7_difference_0 9 rfl rfl)
theorem dX7_difference_10 : decode cX7_difference 10 = .ok (.bipush (-2), 2) := dk_16 254 (dk_at dksX7_difference_0 10 rfl rfl)
theorem dX7_difference_12 : decode cX7_difference 12 = .ok (.if_icmp .ne 7, 3) := dk_160 0 7 (dk_at dksX7_difference_0 12 rfl rfl)
theorem dX7_difference_15 : decode cX7_difference 15 = .ok (.iconst 0, 1) := dk_3 (dk_at dksX7_difference_0 15 rfl rfl)
theorem dX7_difference_16 : decode cX7_difference 16 = .ok (.goto 12, 3) := dk_167 0 12 (dk_at dksX7_difference_0 16 rfl rfl)
theorem dX7_difference_19 : decode cX7_difference 19 = .ok (.aload_n 0, 1) := dk_42 (dk_at dksX7_difference_0 19 rfl rfl)
theorem dX7_difference_20 : decode cX7_difference 20 = .ok (.iload_n 3, 1) := dk_29 (dk_at dksX7_difference_0 20 rfl rfl)
theorem dX7_difference_21 : decode cX7_difference 21 = .ok (.bipush 9, 2) := dk_16 9 (dk_at dksX7_difference_0 21 rfl rfl)
theorem dX7_difference_23 : decode cX7_difference 23 = .ok (.iload_n 2, 1) := dk_28 (dk_at dksX7_difference_0 23 rfl rfl)
theorem dX7_difference_24 : decode cX7_difference 24 = .ok (.iadd, 1) := dk_96 (dk_at dksX7_difference_1 0 rfl rfl)
theorem dX7_difference_25 : decode cX7_difference 25 = .ok (.invokevirtual 75, 3) := dk_182 0 75 (dk_at dksX7_difference_1 1 rfl rfl)
theorem dX7_difference_28 : decode cX7_difference 28 = .ok (.isub, 1) := dk_100 (dk_at dksX7_difference_1 4 rfl rfl)
theorem dX7_difference_29 : decode cX7_difference 29 = .ok (.ireturn, 1) := dk_172 (dk_at dksX7_difference_1 5 rfl rfl)
abbrev iX7_difference : xM := (yX7_difference, cX7_difference, 4, (some .int), [])
theorem mX7_difference : xOkM iX7_difference := ⟨by decide +kernel, by decide, q3905, q175⟩
abbrev cX7_bare : ByteArray := prog_15_method_5_code
def yX7_bare : MethodName := ⟨RX7, "bare", "(I)I"⟩
def dkwX7_bare_0 : List UInt8 := [26, 156, 0, 8, 26, 116, 167, 0, 4, 26, 172]
abbrev dktX7_bare_0 : List UInt8 := dkwX7_bare_0 ++ []
theorem dksX7_bare_0 : cX7_bare.data.toList.drop 0 = dktX7_bare_0 := by decide +kernel
theorem dX7_bare_0 : decode cX7_bare 0 = .ok (.iload_n 0, 1) := dk_26 (dk_at dksX7_bare_0 0 rfl rfl)
theorem dX7_bare_1 : decode cX7_bare 1 = .ok (.ifCond .ge 8, 3) := dk_156 0 8 (dk_at dksX7_bare_0 1 rfl rfl)
theorem dX7_bare_4 : decode cX7_bare 4 = .ok (.iload_n 0, 1) := dk_26 (dk_at dksX7_bare_0 4 rfl rfl)
theorem dX7_bare_5 : decode cX7_bare 5 = .ok (.ineg, 1) := dk_116 (dk_at dksX7_bare_0 5 rfl rfl)
theorem dX7_bare_6 : decode cX7_bare 6 = .ok (.goto 4, 3) := dk_167 0 4 (dk_at dksX7_bare_0 6 rfl rfl)
theorem dX7_bare_9 : decode cX7_bare 9 = .ok (.iload_n 0, 1) := dk_26 (dk_at dksX7_bare_0 9 rfl rfl)
theorem dX7_bare_10 : decode cX7_bare 10 = .ok (.ireturn, 1) := dk_172 (dk_at dksX7_bare_0 10 rfl rfl)
abbrev iX7_bare : xM := (yX7_bare, cX7_bare, 1, (some .int), [])
theorem mX7_bare : xOkM iX7_bare := ⟨by decide +kernel, by decide, q3908, q175⟩
abbrev cX7_forgives : ByteArray := prog_15_method_19_code
def yX7_forgives : MethodName := ⟨RX7, "forgives", "(II)V"⟩
def dkwX7_forgives_1 : List UInt8 := [16, 19, 92, 46, 4, 96, 79, 42, 180, 0, 7, 16, 17, 92, 46, 4, 96, 79, 177]
abbrev dktX7_forgives_1 : List UInt8 := dkwX7_forgives_1 ++ []
def dkwX7_forgives_0 : List UInt8 := [42, 180, 0, 7, 16, 30, 42, 180, 0, 7, 16, 19, 46, 96, 7, 27, 104, 28, 96, 79, 42, 180, 0, 7]
abbrev dktX7_forgives_0 : List UInt8 := dkwX7_forgives_0 ++ dktX7_forgives_1
theorem dksX7_forgives_0 : cX7_forgives.data.toList.drop 0 = dktX7_forgives_0 := by decide +kernel
theorem dksX7_forgives_1 : cX7_forgives.data.toList.drop 24 = dktX7_forgives_1 := dk_seg dksX7_forgives_0 24 rfl rfl
theorem dX7_forgives_0 : decode cX7_forgives 0 = .ok (.aload_n 0, 1) := dk_42 (dk_at dksX7_forgives_0 0 rfl rfl)
theorem dX7_forgives_1 : decode cX7_forgives 1 = .ok (.getfield 7, 3) := dk_180 0 7 (dk_at dksX7_forgives_0 1 rfl rfl)
theorem dX7_forgives_4 : decode cX7_forgives 4 = .ok (.bipush 30, 2) := dk_16 30 (dk_at dksX7_forgives_0 4 rfl rfl)
theorem dX7_forgives_6 : decode cX7_forgives 6 = .ok (.aload_n 0, 1) := dk_42 (dk_at dksX7_forgives_0 6 rfl rfl)
theorem dX7_forgives_7 : decode cX7_forgives 7 = .ok (.getfield 7, 3) := dk_180 0 7 (dk_at dksX7_forgives_0 7 rfl rfl)
theorem dX7_forgives_10 : decode cX7_forgives 10 = .ok (.bipush 19, 2) := dk_16 19 (dk_at dksX7_forgives_0 10 rfl rfl)
theorem dX7_forgives_12 : decode cX7_forgives 12 = .ok (.iaload, 1) := dk_46 (dk_at dksX7_forgives_0 12 rfl rfl)
theorem dX7_forgives_13 : decode cX7_forgives 13 = .ok (.iadd, 1) := dk_96 (dk_at dksX7_forgives_0 13 rfl rfl)
theorem dX7_forgives_14 : decode cX7_forgives 14 = .ok (.iconst 4, 1) := dk_7 (dk_at dksX7_forgives_0 14 rfl rfl)
theorem dX7_forgives_15 : decode cX7_forgives 15 = .ok (.iload_n 1, 1) := dk_27 (dk_at dksX7_forgives_0 15 rfl rfl)
theorem dX7_forgives_16 : decode cX7_forgives 16 = .ok (.imul, 1) := dk_104 (dk_at dksX7_forgives_0 16 rfl rfl)
theorem dX7_forgives_17 : decode cX7_forgives 17 = .ok (.iload_n 2, 1) := dk_28 (dk_at dksX7_forgives_0 17 rfl rfl)
theorem dX7_forgives_18 : decode cX7_forgives 18 = .ok (.iadd, 1) := dk_96 (dk_at dksX7_forgives_0 18 rfl rfl)
theorem dX7_forgives_19 : decode cX7_forgives 19 = .ok (.iastore, 1) := dk_79 (dk_at dksX7_forgives_0 19 rfl rfl)
theorem dX7_forgives_20 : decode cX7_forgives 20 = .ok (.aload_n 0, 1) := dk_42 (dk_at dksX7_forgives_0 20 rfl rfl)
theorem dX7_forgives_21 : decode cX7_forgives 21 = .ok (.getfield 7, 3) := dk_180 0 7 (dk_at dksX7_forgives_0 21 rfl rfl)
theorem dX7_forgives_24 : decode cX7_forgives 24 = .ok (.bipush 19, 2) := dk_16 19 (dk_at dksX7_forgives_1 0 rfl rfl)
theorem dX7_forgives_26 : decode cX7_forgives 26 = .ok (.dup2, 1) := dk_92 (dk_at dksX7_forgives_1 2 rfl rfl)
theorem dX7_forgives_27 : decode cX7_forgives 27 = .ok (.iaload, 1) := dk_46 (dk_at dksX7_forgives_1 3 rfl rfl)
theorem dX7_forgives_28 : decode cX7_forgives 28 = .ok (.iconst 1, 1) := dk_4 (dk_at dksX7_forgives_1 4 rfl rfl)
theorem dX7_forgives_29 : decode cX7_forgives 29 = .ok (.iadd, 1) := dk_96 (dk_at dksX7_forgives_1 5 rfl rfl)
theorem dX7_forgives_30 : decode cX7_forgives 30 = .ok (.iastore, 1) := dk_79 (dk_at dksX7_forgives_1 6 rfl rfl)
theorem dX7_forgives_31 : decode cX7_forgives 31 = .ok (.aload_n 0, 1) := dk_42 (dk_at dksX7_forgives_1 7 rfl rfl)
theorem dX7_forgives_32 : decode cX7_forgives 32 = .ok (.getfield 7, 3) := dk_180 0 7 (dk_at dksX7_forgives_1 8 rfl rfl)
theorem dX7_forgives_35 : decode cX7_forgives 35 = .ok (.bipush 17, 2) := dk_16 17 (dk_at dksX7_forgives_1 11 rfl rfl)
theorem dX7_forgives_37 : decode cX7_forgives 37 = .ok (.dup2, 1) := dk_92 (dk_at dksX7_forgives_1 13 rfl rfl)
theorem dX7_forgives_38 : decode cX7_forgives 38 = .ok (.iaload, 1) := dk_46 (dk_at dksX7_forgives_1 14 rfl rfl)
theorem dX7_forgives_39 : decode cX7_forgives 39 = .ok (.iconst 1, 1) := dk_4 (dk_at dksX7_forgives_1 15 rfl rfl)
theorem dX7_forgives_40 : decode cX7_forgives 40 = .ok (.iadd, 1) := dk_96 (dk_at dksX7_forgives_1 16 rfl rfl)
theorem dX7_forgives_41 : decode cX7_forgives 41 = .ok (.iastore, 1) := dk_79 (dk_at dksX7_forgives_1 17 rfl rfl)
theorem dX7_forgives_42 : decode cX7_forgives 42 = .ok (.return_, 1) := dk_177 (dk_at dksX7_forgives_1 18 rfl rfl)
abbrev iX7_forgives : xM := (yX7_forgives, cX7_forgives, 3, none, [])
theorem mX7_forgives : xOkM iX7_forgives := ⟨by decide +kernel, by decide, q3912, q175⟩
abbrev cX7_behindTurn : ByteArray := prog_15_method_20_code
def yX7_behindTurn : MethodName := ⟨RX7, "behindTurn", "(III)I"⟩
def dkwX7_behindTurn_1 : List UInt8 := [164, 0, 7, 8, 167, 0, 4, 3, 172]
abbrev dktX7_behindTurn_1 : List UInt8 := dkwX7_behindTurn_1 ++ []
def dkwX7_behindTurn_0 : List UInt8 := [42, 27, 28, 182, 0, 85, 153, 0, 5, 7, 172, 42, 27, 28, 29, 182, 0, 89, 184, 0, 93, 5]
abbrev dktX7_behindTurn_0 : List UInt8 := dkwX7_behindTurn_0 ++ dktX7_behindTurn_1
theorem dksX7_behindTurn_0 : cX7_behindTurn.data.toList.drop 0 = dktX7_behindTurn_0 := by decide +kernel
theorem dksX7_behindTurn_1 : cX7_behindTurn.data.toList.drop 22 = dktX7_behindTurn_1 := dk_seg dksX7_behindTurn_0 22 rfl rfl
theorem dX7_behindTurn_0 : decode cX7_behindTurn 0 = .ok (.aload_n 0, 1) := dk_42 (dk_at dksX7_behindTurn_0 0 rfl rfl)
theorem dX7_behindTurn_1 : decode cX7_behindTurn 1 = .ok (.iload_n 1, 1) := dk_27 (dk_at dksX7_behindTurn_0 1 rfl rfl)
theorem dX7_behindTurn_2 : decode cX7_behindTurn 2 = .ok (.iload_n 2, 1) := dk_28 (dk_at dksX7_behindTurn_0 2 rfl rfl)
theorem dX7_behindTurn_3 : decode cX7_behindTurn 3 = .ok (.invokevirtual 85, 3) := dk_182 0 85 (dk_at dksX7_behindTurn_0 3 rfl rfl)
theorem dX7_behindTurn_6 : decode cX7_behindTurn 6 = .ok (.ifCond .eq 5, 3) := dk_153 0 5 (dk_at dksX7_behindTurn_0 6 rfl rfl)
theorem dX7_behindTurn_9 : decode cX7_behindTurn 9 = .ok (.iconst 4, 1) := dk_7 (dk_at dksX7_behindTurn_0 9 rfl rfl)
theorem dX7_behindTurn_10 : decode cX7_behindTurn 10 = .ok (.ireturn, 1) := dk_172 (dk_at dksX7_behindTurn_0 10 rfl rfl)
theorem dX7_behindTurn_11 : decode cX7_behindTurn 11 = .ok (.aload_n 0, 1) := dk_42 (dk_at dksX7_behindTurn_0 11 rfl rfl)
theorem dX7_behindTurn_12 : decode cX7_behindTurn 12 = .ok (.iload_n 1, 1) := dk_27 (dk_at dksX7_behindTurn_0 12 rfl rfl)
theorem dX7_behindTurn_13 : decode cX7_behindTurn 13 = .ok (.iload_n 2, 1) := dk_28 (dk_at dksX7_behindTurn_0 13 rfl rfl)
theorem dX7_behindTurn_14 : decode cX7_behindTurn 14 = .ok (.iload_n 3, 1) := dk_29 (dk_at dksX7_behindTurn_0 14 rfl rfl)
theorem dX7_behindTurn_15 : decode cX7_behindTurn 15 = .ok (.invokevirtual 89, 3) := dk_182 0 89 (dk_at dksX7_behindTurn_0 15 rfl rfl)
theorem dX7_behindTurn_18 : decode cX7_behindTurn 18 = .ok (.invokestatic 93, 3) := dk_184 0 93 (dk_at dksX7_behindTurn_0 18 rfl rfl)
theorem dX7_behindTurn_21 : decode cX7_behindTurn 21 = .ok (.iconst 2, 1) := dk_5 (dk_at dksX7_behindTurn_0 21 rfl rfl)
theorem dX7_behindTurn_22 : decode cX7_behindTurn 22 = .ok (.if_icmp .le 7, 3) := dk_164 0 7 (dk_at dksX7_behindTurn_1 0 rfl rfl)
theorem dX7_behindTurn_25 : decode cX7_behindTurn 25 = .ok (.iconst 5, 1) := dk_8 (dk_at dksX7_behindTurn_1 3 rfl rfl)
theorem dX7_behindTurn_26 : decode cX7_behindTurn 26 = .ok (.goto 4, 3) := dk_167 0 4 (dk_at dksX7_behindTurn_1 4 rfl rfl)
theorem dX7_behindTurn_29 : decode cX7_behindTurn 29 = .ok (.iconst 0, 1) := dk_3 (dk_at dksX7_behindTurn_1 7 rfl rfl)
theorem dX7_behindTurn_30 : decode cX7_behindTurn 30 = .ok (.ireturn, 1) := dk_172 (dk_at dksX7_behindTurn_1 8 rfl rfl)
abbrev iX7_behindTurn : xM := (yX7_behindTurn, cX7_behindTurn, 4, (some .int), [])
theorem mX7_behindTurn : xOkM iX7_behindTurn := ⟨by decide +kernel, by decide, q3916, q175⟩
abbrev cX7_inTune : ByteArray := prog_15_method_23_code
def yX7_inTune : MethodName := ⟨RX7, "inTune", "()I"⟩
def dkwX7_inTune_1 : List UInt8 := [132, 2, 1, 167, 255, 233, 27, 172]
abbrev dktX7_inTune_1 : List UInt8 := dkwX7_inTune_1 ++ []
def dkwX7_inTune_0 : List UInt8 := [3, 60, 3, 61, 28, 42, 180, 0, 7, 16, 13, 46, 162, 0, 18, 27, 42, 28, 5, 182, 0, 75, 96, 60]
abbrev dktX7_inTune_0 : List UInt8 := dkwX7_inTune_0 ++ dktX7_inTune_1
theorem dksX7_inTune_0 : cX7_inTune.data.toList.drop 0 = dktX7_inTune_0 := by decide +kernel
theorem dksX7_inTune_1 : cX7_inTune.data.toList.drop 24 = dktX7_inTune_1 := dk_seg dksX7_inTune_0 24 rfl rfl
theorem dX7_inTune_0 : decode cX7_inTune 0 = .ok (.iconst 0, 1) := dk_3 (dk_at dksX7_inTune_0 0 rfl rfl)
theorem dX7_inTune_1 : decode cX7_inTune 1 = .ok (.istore_n 1, 1) := dk_60 (dk_at dksX7_inTune_0 1 rfl rfl)
theorem dX7_inTune_2 : decode cX7_inTune 2 = .ok (.iconst 0, 1) := dk_3 (dk_at dksX7_inTune_0 2 rfl rfl)
theorem dX7_inTune_3 : decode cX7_inTune 3 = .ok (.istore_n 2, 1) := dk_61 (dk_at dksX7_inTune_0 3 rfl rfl)
theorem dX7_inTune_4 : decode cX7_inTune 4 = .ok (.iload_n 2, 1) := dk_28 (dk_at dksX7_inTune_0 4 rfl rfl)
theorem dX7_inTune_5 : decode cX7_inTune 5 = .ok (.aload_n 0, 1) := dk_42 (dk_at dksX7_inTune_0 5 rfl rfl)
theorem dX7_inTune_6 : decode cX7_inTune 6 = .ok (.getfield 7, 3) := dk_180 0 7 (dk_at dksX7_inTune_0 6 rfl rfl)
theorem dX7_inTune_9 : decode cX7_inTune 9 = .ok (.bipush 13, 2) := dk_16 13 (dk_at dksX7_inTune_0 9 rfl rfl)
theorem dX7_inTune_11 : decode cX7_inTune 11 = .ok (.iaload, 1) := dk_46 (dk_at dksX7_inTune_0 11 rfl rfl)
theorem dX7_inTune_12 : decode cX7_inTune 12 = .ok (.if_icmp .ge 18, 3) := dk_162 0 18 (dk_at dksX7_inTune_0 12 rfl rfl)
theorem dX7_inTune_15 : decode cX7_inTune 15 = .ok (.iload_n 1, 1) := dk_27 (dk_at dksX7_inTune_0 15 rfl rfl)
theorem dX7_inTune_16 : decode cX7_inTune 16 = .ok (.aload_n 0, 1) := dk_42 (dk_at dksX7_inTune_0 16 rfl rfl)
theorem dX7_inTune_17 : decode cX7_inTune 17 = .ok (.iload_n 2, 1) := dk_28 (dk_at dksX7_inTune_0 17 rfl rfl)
theorem dX7_inTune_18 : decode cX7_inTune 18 = .ok (.iconst 2, 1) := dk_5 (dk_at dksX7_inTune_0 18 rfl rfl)
theorem dX7_inTune_19 : decode cX7_inTune 19 = .ok (.invokevirtual 75, 3) := dk_182 0 75 (dk_at dksX7_inTune_0 19 rfl rfl)
theorem dX7_inTune_22 : decode cX7_inTune 22 = .ok (.iadd, 1) := dk_96 (dk_at dksX7_inTune_0 22 rfl rfl)
theorem dX7_inTune_23 : decode cX7_inTune 23 = .ok (.istore_n 1, 1) := dk_60 (dk_at dksX7_inTune_0 23 rfl rfl)
theorem dX7_inTune_24 : decode cX7_inTune 24 = .ok (.iinc 2 1, 3) := dk_132 2 1 (dk_at dksX7_inTune_1 0 rfl rfl)
theorem dX7_inTune_27 : decode cX7_inTune 27 = .ok (.goto (-23), 3) := dk_167 255 233 (dk_at dksX7_inTune_1 3 rfl rfl)
theorem dX7_inTune_30 : decode cX7_inTune 30 = .ok (.iload_n 1, 1) := dk_27 (dk_at dksX7_inTune_1 6 rfl rfl)
theorem dX7_inTune_31 : decode cX7_inTune 31 = .ok (.ireturn, 1) := dk_172 (dk_at dksX7_inTune_1 7 rfl rfl)
abbrev iX7_inTune : xM := (yX7_inTune, cX7_inTune, 3, (some .int), [])
theorem mX7_inTune : xOkM iX7_inTune := ⟨by decide +kernel, by decide, q3920, q175⟩

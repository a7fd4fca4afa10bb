set_option maxRecDepth 100000
abbrev cJ0_init : ByteArray := prog_49_method_1_code
def yJ0_init : MethodName := ⟨RJ0, "<init>", "()V"⟩
theorem dJ0_init_0 : decode cJ0_init 0 = .ok (.aload_n 0, 1) := by decide +kernel
theorem dJ0_init_1 : decode cJ0_init 1 = .ok (.invokespecial 1, 3) := by decide +kernel
theorem dJ0_init_4 : decode cJ0_init 4 = .ok (.return_, 1) := by decide +kernel
abbrev iJ0_init : xM := (yJ0_init, cJ0_init, 1, none, [])
theorem mJ0_init : xOkM iJ0_init := ⟨by decide +kernel, by decide, q227, q133⟩
abbrev cJ1_init : ByteArray := prog_50_method_1_code
def yJ1_init : MethodName := ⟨RJ1, "<init>", "()V"⟩
def dkwJ1_init_0 : List UInt8 := [42, 183, 0, 1, 42, 3, 181, 0, 7, 177]
abbrev dktJ1_init_0 : List UInt8 := dkwJ1_init_0 ++ []
theorem dksJ1_init_0 : cJ1_init.data.toList.drop 0 = dktJ1_init_0 := by decide +kernel
theorem dJ1_init_0 : decode cJ1_init 0 = .ok (.aload_n 0, 1) := dk_42 (dk_at dksJ1_init_0 0 rfl rfl)
theorem dJ1_init_1 : decode cJ1_init 1 = .ok (.invokespecial 1, 3) := dk_183 0 1 (dk_at dksJ1_init_0 1 rfl rfl)
theorem dJ1_init_4 : decode cJ1_init 4 = .ok (.aload_n 0, 1) := dk_42 (dk_at dksJ1_init_0 4 rfl rfl)
theorem dJ1_init_5 : decode cJ1_init 5 = .ok (.iconst 0, 1) := dk_3 (dk_at dksJ1_init_0 5 rfl rfl)
theorem dJ1_init_6 : decode cJ1_init 6 = .ok (.putfield 7, 3) := dk_181 0 7 (dk_at dksJ1_init_0 6 rfl rfl)
theorem dJ1_init_9 : decode cJ1_init 9 = .ok (.return_, 1) := dk_177 (dk_at dksJ1_init_0 9 rfl rfl)
abbrev iJ1_init : xM := (yJ1_init, cJ1_init, 1, none, [])
theorem mJ1_init : xOkM iJ1_init := ⟨by decide +kernel, by decide, q224, q134⟩
abbrev cJ2_init : ByteArray := prog_55_method_2_code
def yJ2_init : MethodName := ⟨RJ2, "<init>", "()V"⟩
def dkwJ2_init_0 : List UInt8 := [42, 183, 0, 1, 42, 178, 0, 39, 181, 0, 9, 177]
abbrev dktJ2_init_0 : List UInt8 := dkwJ2_init_0 ++ []
theorem dksJ2_init_0 : cJ2_init.data.toList.drop 0 = dktJ2_init_0 := by decide +kernel
theorem dJ2_init_0 : decode cJ2_init 0 = .ok (.aload_n 0, 1) := dk_42 (dk_at dksJ2_init_0 0 rfl rfl)
theorem dJ2_init_1 : decode cJ2_init 1 = .ok (.invokespecial 1, 3) := dk_183 0 1 (dk_at dksJ2_init_0 1 rfl rfl)
theorem dJ2_init_4 : decode cJ2_init 4 = .ok (.aload_n 0, 1) := dk_42 (dk_at dksJ2_init_0 4 rfl rfl)
theorem dJ2_init_5 : decode cJ2_init 5 = .ok (.getstatic 39, 3) := dk_178 0 39 (dk_at dksJ2_init_0 5 rfl rfl)
theorem dJ2_init_8 : decode cJ2_init 8 = .ok (.putfield 9, 3) := dk_181 0 9 (dk_at dksJ2_init_0 8 rfl rfl)
theorem dJ2_init_11 : decode cJ2_init 11 = .ok (.return_, 1) := dk_177 (dk_at dksJ2_init_0 11 rfl rfl)
abbrev iJ2_init : xM := (yJ2_init, cJ2_init, 1, none, [])
theorem mJ2_init : xOkM iJ2_init := ⟨by decide +kernel, by decide, q221, q135⟩
abbrev cJ2_size : ByteArray := prog_55_method_8_code
def yJ2_size : MethodName := ⟨RJ2, "size", "()I"⟩
theorem dJ2_size_0 : decode cJ2_size 0 = .ok (.aload_n 0, 1) := by decide +kernel
theorem dJ2_size_1 : decode cJ2_size 1 = .ok (.getfield 48, 3) := by decide +kernel
theorem dJ2_size_4 : decode cJ2_size 4 = .ok (.ireturn, 1) := by decide +kernel
abbrev iJ2_size : xM := (yJ2_size, cJ2_size, 1, (some .int), [])
theorem mJ2_size : xOkM iJ2_size := ⟨by decide +kernel, by decide, q1244, q135⟩
abbrev cJ2_add : ByteArray := prog_55_method_25_code
def yJ2_add : MethodName := ⟨RJ2, "add", "(Ljava/lang/Object;)Z"⟩
def dkwJ2_add_1 : List UInt8 := [172]
abbrev dktJ2_add_1 : List UInt8 := dkwJ2_add_1 ++ []
def dkwJ2_add_0 : List UInt8 := [42, 89, 180, 0, 63, 4, 96, 181, 0, 63, 42, 43, 42, 180, 0, 9, 42, 180, 0, 48, 182, 0, 131, 4]
abbrev dktJ2_add_0 : List UInt8 := dkwJ2_add_0 ++ dktJ2_add_1
theorem dksJ2_add_0 : cJ2_add.data.toList.drop 0 = dktJ2_add_0 := by decide +kernel
theorem dksJ2_add_1 : cJ2_add.data.toList.drop 24 = dktJ2_add_1 := dk_seg dksJ2_add_0 24 rfl rfl
theorem dJ2_add_0 : decode cJ2_add 0 = .ok (.aload_n 0, 1) := dk_42 (dk_at dksJ2_add_0 0 rfl rfl)
theorem dJ2_add_1 : decode cJ2_add 1 = .ok (.dup, 1) := dk_89 (dk_at dksJ2_add_0 1 rfl rfl)
theorem dJ2_add_2 : decode cJ2_add 2 = .ok (.getfield 63, 3) := dk_180 0 63 (dk_at dksJ2_add_0 2 rfl rfl)
theorem dJ2_add_5 : decode cJ2_add 5 = .ok (.iconst 1, 1) := dk_4 (dk_at dksJ2_add_0 5 rfl rfl)
theorem dJ2_add_6 : decode cJ2_add 6 = .ok (.iadd, 1) := dk_96 (dk_at dksJ2_add_0 6 rfl rfl)
theorem dJ2_add_7 : decode cJ2_add 7 = .ok (.putfield 63, 3) := dk_181 0 63 (dk_at dksJ2_add_0 7 rfl rfl)
theorem dJ2_add_10 : decode cJ2_add 10 = .ok (.aload_n 0, 1) := dk_42 (dk_at dksJ2_add_0 10 rfl rfl)
theorem dJ2_add_11 : decode cJ2_add 11 = .ok (.aload_n 1, 1) := dk_43 (dk_at dksJ2_add_0 11 rfl rfl)
theorem dJ2_add_12 : decode cJ2_add 12 = .ok (.aload_n 0, 1) := dk_42 (dk_at dksJ2_add_0 12 rfl rfl)
theorem dJ2_add_13 : decode cJ2_add 13 = .ok (.getfield 9, 3) := dk_180 0 9 (dk_at dksJ2_add_0 13 rfl rfl)
theorem dJ2_add_16 : decode cJ2_add 16 = .ok (.aload_n 0, 1) := dk_42 (dk_at dksJ2_add_0 16 rfl rfl)
theorem dJ2_add_17 : decode cJ2_add 17 = .ok (.getfield 48, 3) := dk_180 0 48 (dk_at dksJ2_add_0 17 rfl rfl)
theorem dJ2_add_20 : decode cJ2_add 20 = .ok (.invokevirtual 131, 3) := dk_182 0 131 (dk_at dksJ2_add_0 20 rfl rfl)
theorem dJ2_add_23 : decode cJ2_add 23 = .ok (.iconst 1, 1) := dk_4 (dk_at dksJ2_add_0 23 rfl rfl)
theorem dJ2_add_24 : decode cJ2_add 24 = .ok (.ireturn, 1) := dk_172 (dk_at dksJ2_add_1 0 rfl rfl)
abbrev iJ2_add : xM := (yJ2_add, cJ2_add, 2, (some .boolean), [])
theorem mJ2_add : xOkM iJ2_add := ⟨by decide +kernel, by decide, q1288, q135⟩
abbrev cJ2_add_2 : ByteArray := prog_55_method_24_code
def yJ2_add_2 : MethodName := ⟨RJ2, "add", "(Ljava/lang/Object;[Ljava/lang/Object;I)V"⟩
def dkwJ2_add_2_0 : List UInt8 := [29, 44, 190, 160, 0, 8, 42, 182, 0, 129, 77, 44, 29, 43, 83, 42, 29, 4, 96, 181, 0, 48, 177]
abbrev dktJ2_add_2_0 : List UInt8 := dkwJ2_add_2_0 ++ []
theorem dksJ2_add_2_0 : cJ2_add_2.data.toList.drop 0 = dktJ2_add_2_0 := by decide +kernel
theorem dJ2_add_2_0 : decode cJ2_add_2 0 = .ok (.iload_n 3, 1) := dk_29 (dk_at dksJ2_add_2_0 0 rfl rfl)
theorem dJ2_add_2_1 : decode cJ2_add_2 1 = .ok (.aload_n 2, 1) := dk_44 (dk_at dksJ2_add_2_0 1 rfl rfl)
theorem dJ2_add_2_2 : decode cJ2_add_2 2 = .ok (.arraylength, 1) := dk_190 (dk_at dksJ2_add_2_0 2 rfl rfl)
theorem dJ2_add_2_3 : decode cJ2_add_2 3 = .ok (.if_icmp .ne 8, 3) := dk_160 0 8 (dk_at dksJ2_add_2_0 3 rfl rfl)
theorem dJ2_add_2_6 : decode cJ2_add_2 6 = .ok (.aload_n 0, 1) := dk_42 (dk_at dksJ2_add_2_0 6 rfl rfl)
theorem dJ2_add_2_7 : decode cJ2_add_2 7 = .ok (.invokevirtual 129, 3) := dk_182 0 129 (dk_at dksJ2_add_2_0 7 rfl rfl)
theorem dJ2_add_2_10 : decode cJ2_add_2 10 = .ok (.astore_n 2, 1) := dk_77 (dk_at dksJ2_add_2_0 10 rfl rfl)
theorem dJ2_add_2_11 : decode cJ2_add_2 11 = .ok (.aload_n 2, 1) := dk_44 (dk_at dksJ2_add_2_0 11 rfl rfl)
theorem dJ2_add_2_12 : decode cJ2_add_2 12 = .ok (.iload_n 3, 1) := dk_29 (dk_at dksJ2_add_2_0 12 rfl rfl)
theorem dJ2_add_2_13 : decode cJ2_add_2 13 = .ok (.aload_n 1, 1) := dk_43 (dk_at dksJ2_add_2_0 13 rfl rfl)
theorem dJ2_add_2_14 : decode cJ2_add_2 14 = .ok (.aastore, 1) := dk_83 (dk_at dksJ2_add_2_0 14 rfl rfl)
theorem dJ2_add_2_15 : decode cJ2_add_2 15 = .ok (.aload_n 0, 1) := dk_42 (dk_at dksJ2_add_2_0 15 rfl rfl)
theorem dJ2_add_2_16 : decode cJ2_add_2 16 = .ok (.iload_n 3, 1) := dk_29 (dk_at dksJ2_add_2_0 16 rfl rfl)
theorem dJ2_add_2_17 : decode cJ2_add_2 17 = .ok (.iconst 1, 1) := dk_4 (dk_at dksJ2_add_2_0 17 rfl rfl)
theorem dJ2_add_2_18 : decode cJ2_add_2 18 = .ok (.iadd, 1) := dk_96 (dk_at dksJ2_add_2_0 18 rfl rfl)
theorem dJ2_add_2_19 : decode cJ2_add_2 19 = .ok (.putfield 48, 3) := dk_181 0 48 (dk_at dksJ2_add_2_0 19 rfl rfl)
theorem dJ2_add_2_22 : decode cJ2_add_2 22 = .ok (.return_, 1) := dk_177 (dk_at dksJ2_add_2_0 22 rfl rfl)
abbrev iJ2_add_2 : xM := (yJ2_add_2, cJ2_add_2, 4, none, [])
theorem mJ2_add_2 : xOkM iJ2_add_2 := ⟨by decide +kernel, by decide, q1292, q135⟩
abbrev cJ2_grow : ByteArray := prog_55_method_7_code
def yJ2_grow : MethodName := ⟨RJ2, "grow", "()[Ljava/lang/Object;"⟩
def dkwJ2_grow_0 : List UInt8 := [42, 42, 180, 0, 48, 4, 96, 182, 0, 69, 176]
abbrev dktJ2_grow_0 : List UInt8 := dkwJ2_grow_0 ++ []
theorem dksJ2_grow_0 : cJ2_grow.data.toList.drop 0 = dktJ2_grow_0 := by decide +kernel
theorem dJ2_grow_0 : decode cJ2_grow 0 = .ok (.aload_n 0, 1) := dk_42 (dk_at dksJ2_grow_0 0 rfl rfl)
theorem dJ2_grow_1 : decode cJ2_grow 1 = .ok (.aload_n 0, 1) := dk_42 (dk_at dksJ2_grow_0 1 rfl rfl)
theorem dJ2_grow_2 : decode cJ2_grow 2 = .ok (.getfield 48, 3) := dk_180 0 48 (dk_at dksJ2_grow_0 2 rfl rfl)
theorem dJ2_grow_5 : decode cJ2_grow 5 = .ok (.iconst 1, 1) := dk_4 (dk_at dksJ2_grow_0 5 rfl rfl)
theorem dJ2_grow_6 : decode cJ2_grow 6 = .ok (.iadd, 1) := dk_96 (dk_at dksJ2_grow_0 6 rfl rfl)
theorem dJ2_grow_7 : decode cJ2_grow 7 = .ok (.invokevirtual 69, 3) := dk_182 0 69 (dk_at dksJ2_grow_0 7 rfl rfl)
theorem dJ2_grow_10 : decode cJ2_grow 10 = .ok (.areturn, 1) := dk_176 (dk_at dksJ2_grow_0 10 rfl rfl)
abbrev iJ2_grow : xM := (yJ2_grow, cJ2_grow, 1, (some (.array (.object "java/lang/Object"))), [])
theorem mJ2_grow : xOkM iJ2_grow := ⟨by decide +kernel, by decide, q1296, q135⟩
abbrev cJ2_grow_2 : ByteArray := prog_55_method_6_code
def yJ2_grow_2 : MethodName := ⟨RJ2, "grow", "(I)[Ljava/lang/Object;"⟩
def dkwJ2_grow_2_2 : List UInt8 := [27, 184, 0, 79, 189, 0, 7, 90, 181, 0, 9, 176]
abbrev dktJ2_grow_2_2 : List UInt8 := dkwJ2_grow_2_2 ++ []
def dkwJ2_grow_2_1 : List UInt8 := [28, 4, 122, 184, 0, 73, 62, 42, 42, 180, 0, 9, 29, 184, 0, 66, 90, 181, 0, 9, 176, 42, 16, 10]
abbrev dktJ2_grow_2_1 : List UInt8 := dkwJ2_grow_2_1 ++ dktJ2_grow_2_2
def dkwJ2_grow_2_0 : List UInt8 := [42, 180, 0, 9, 190, 61, 28, 157, 0, 13, 42, 180, 0, 9, 178, 0, 39, 165, 0, 28, 28, 27, 28, 100]
abbrev dktJ2_grow_2_0 : List UInt8 := dkwJ2_grow_2_0 ++ dktJ2_grow_2_1
theorem dksJ2_grow_2_0 : cJ2_grow_2.data.toList.drop 0 = dktJ2_grow_2_0 := by decide +kernel
theorem dksJ2_grow_2_1 : cJ2_grow_2.data.toList.drop 24 = dktJ2_grow_2_1 := dk_seg dksJ2_grow_2_0 24 rfl rfl
theorem dksJ2_grow_2_2 : cJ2_grow_2.data.toList.drop 48 = dktJ2_grow_2_2 := dk_seg dksJ2_grow_2_1 24 rfl rfl
theorem dJ2_grow_2_0 : decode cJ2_grow_2 0 = .ok (.aload_n 0, 1) := dk_42 (dk_at dksJ2_grow_2_0 0 rfl rfl)
theorem dJ2_grow_2_1 : decode cJ2_grow_2 1 = .ok (.getfield 9, 3) := dk_180 0 9 (dk_at dksJ2_grow_2_0 1 rfl rfl)
theorem dJ2_grow_2_4 : decode cJ2_grow_2 4 = .ok (.arraylength, 1) := dk_190 (dk_at dksJ2_grow_2_0 4 rfl rfl)
theorem dJ2_grow_2_5 : decode cJ2_grow_2 5 = .ok (.istore_n 2, 1) := dk_61 (dk_at dksJ2_grow_2_0 5 rfl rfl)
theorem dJ2_grow_2_6 : decode cJ2_grow_2 6 = .ok (.iload_n 2, 1) := dk_28 (dk_at dksJ2_grow_2_0 6 rfl rfl)
theorem dJ2_grow_2_7 : decode cJ2_grow_2 7 = .ok (.ifCond .gt 13, 3) := dk_157 0 13 (dk_at dksJ2_grow_2_0 7 rfl rfl)
theorem dJ2_grow_2_10 : decode cJ2_grow_2 10 = .ok (.aload_n 0, 1) := dk_42 (dk_at dksJ2_grow_2_0 10 rfl rfl)
theorem dJ2_grow_2_11 : decode cJ2_grow_2 11 = .ok (.getfield 9, 3) := dk_180 0 9 (dk_at dksJ2_grow_2_0 11 rfl rfl)
theorem dJ2_grow_2_14 : decode cJ2_grow_2 14 = .ok (.getstatic 39, 3) := dk_178 0 39 (dk_at dksJ2_grow_2_0 14 rfl rfl)
theorem dJ2_grow_2_17 : decode cJ2_grow_2 17 = .ok (.if_acmp .eq 28, 3) := dk_165 0 28 (dk_at dksJ2_grow_2_0 17 rfl rfl)
theorem dJ2_grow_2_20 : decode cJ2_grow_2 20 = .ok (.iload_n 2, 1) := dk_28 (dk_at dksJ2_grow_2_0 20 rfl rfl)
theorem dJ2_grow_2_21 : decode cJ2_grow_2 21 = .ok (.iload_n 1, 1) := dk_27 (dk_at dksJ2_grow_2_0 21 rfl rfl)
theorem dJ2_grow_2_22 : decode cJ2_grow_2 22 = .ok (.iload_n 2, 1) := dk_28 (dk_at dksJ2_grow_2_0 22 rfl rfl)
theorem dJ2_grow_2_23 : decode cJ2_grow_2 23 = .ok (.isub, 1) := dk_100 (dk_at dksJ2_grow_2_0 23 rfl rfl)
theorem dJ2_grow_2_24 : decode cJ2_grow_2 24 = .ok (.iload_n 2, 1) := dk_28 (dk_at dksJ2_grow_2_1 0 rfl rfl)
theorem dJ2_grow_2_25 : decode cJ2_grow_2 25 = .ok (.iconst 1, 1) := dk_4 (dk_at dksJ2_grow_2_1 1 rfl rfl)
theorem dJ2_grow_2_26 : decode cJ2_grow_2 26 = .ok (.ishr, 1) := dk_122 (dk_at dksJ2_grow_2_1 2 rfl rfl)
theorem dJ2_grow_2_27 : decode cJ2_grow_2 27 = .ok (.invokestatic 73, 3) := dk_184 0 73 (dk_at dksJ2_grow_2_1 3 rfl rfl)
theorem dJ2_grow_2_30 : decode cJ2_grow_2 30 = .ok (.istore_n 3, 1) := dk_62 (dk_at dksJ2_grow_2_1 6 rfl rfl)
theorem dJ2_grow_2_31 : decode cJ2_grow_2 31 = .ok (.aload_n 0, 1) := dk_42 (dk_at dksJ2_grow_2_1 7 rfl rfl)
theorem dJ2_grow_2_32 : decode cJ2_grow_2 32 = .ok (.aload_n 0, 1) := dk_42 (dk_at dksJ2_grow_2_1 8 rfl rfl)
theorem dJ2_grow_2_33 : decode cJ2_grow_2 33 = .ok (.getfield 9, 3) := dk_180 0 9 (dk_at dksJ2_grow_2_1 9 rfl rfl)
theorem dJ2_grow_2_36 : decode cJ2_grow_2 36 = .ok (.iload_n 3, 1) := dk_29 (dk_at dksJ2_grow_2_1 12 rfl rfl)
theorem dJ2_grow_2_37 : decode cJ2_grow_2 37 = .ok (.invokestatic 66, 3) := dk_184 0 66 (dk_at dksJ2_grow_2_1 13 rfl rfl)
theorem dJ2_grow_2_40 : decode cJ2_grow_2 40 = .ok (.dup_x1, 1) := dk_90 (dk_at dksJ2_grow_2_1 16 rfl rfl)
theorem dJ2_grow_2_41 : decode cJ2_grow_2 41 = .ok (.putfield 9, 3) := dk_181 0 9 (dk_at dksJ2_grow_2_1 17 rfl rfl)
theorem dJ2_grow_2_44 : decode cJ2_grow_2 44 = .ok (.areturn, 1) := dk_176 (dk_at dksJ2_grow_2_1 20 rfl rfl)
theorem dJ2_grow_2_45 : decode cJ2_grow_2 45 = .ok (.aload_n 0, 1) := dk_42 (dk_at dksJ2_grow_2_1 21 rfl rfl)
theorem dJ2_grow_2_46 : decode cJ2_grow_2 46 = .ok (.bipush 10, 2) := dk_16 10 (dk_at dksJ2_grow_2_1 22 rfl rfl)
theorem dJ2_grow_2_48 : decode cJ2_grow_2 48 = .ok (.iload_n 1, 1) := dk_27 (dk_at dksJ2_grow_2_2 0 rfl rfl)
theorem dJ2_grow_2_49 : decode cJ2_grow_2 49 = .ok (.invokestatic 79, 3) := dk_184 0 79 (dk_at dksJ2_grow_2_2 1 rfl rfl)
theorem dJ2_grow_2_52 : decode cJ2_grow_2 52 = .ok (.anewarray 7, 3) := dk_189 0 7 (dk_at dksJ2_grow_2_2 4 rfl rfl)
theorem dJ2_grow_2_55 : decode cJ2_grow_2 55 = .ok (.dup_x1, 1) := dk_90 (dk_at dksJ2_grow_2_2 7 rfl rfl)
theorem dJ2_grow_2_56 : decode cJ2_grow_2 56 = .ok (.putfield 9, 3) := dk_181 0 9 (dk_at dksJ2_grow_2_2 8 rfl rfl)
theorem dJ2_grow_2_59 : decode cJ2_grow_2 59 = .ok (.areturn, 1) := dk_176 (dk_at dksJ2_grow_2_2 11 rfl rfl)
abbrev iJ2_grow_2 : xM := (yJ2_grow_2, cJ2_grow_2, 4, (some (.array (.object "java/lang/Object"))), [])
theorem mJ2_grow_2 : xOkM iJ2_grow_2 := ⟨by decide +kernel, by decide, q1300, q135⟩
abbrev cJ2_clear : ByteArray := prog_55_method_40_code
def yJ2_clear : MethodName := ⟨RJ2, "clear", "()V"⟩
def dkwJ2_clear_1 : List UInt8 := [181, 0, 48, 62, 29, 28, 162, 0, 13, 43, 29, 1, 83, 132, 3, 1, 167, 255, 244, 177]
abbrev dktJ2_clear_1 : List UInt8 := dkwJ2_clear_1 ++ []
def dkwJ2_clear_0 : List UInt8 := [42, 89, 180, 0, 63, 4, 96, 181, 0, 63, 42, 180, 0, 9, 76, 42, 180, 0, 48, 61, 42, 3, 90]
abbrev dktJ2_clear_0 : List UInt8 := dkwJ2_clear_0 ++ dktJ2_clear_1
theorem dksJ2_clear_0 : cJ2_clear.data.toList.drop 0 = dktJ2_clear_0 := by decide +kernel
theorem dksJ2_clear_1 : cJ2_clear.data.toList.drop 23 = dktJ2_clear_1 := dk_seg dksJ2_clear_0 23 rfl rfl
theorem dJ2_clear_0 : decode cJ2_clear 0 = .ok (.aload_n 0, 1) := dk_42 (dk_at dksJ2_clear_0 0 rfl rfl)
theorem dJ2_clear_1 : decode cJ2_clear 1 = .ok (.dup, 1) := dk_89 (dk_at dksJ2_clear_0 1 rfl rfl)
theorem dJ2_clear_2 : decode cJ2_clear 2 = .ok (.getfield 63, 3) := dk_180 0 63 (dk_at dksJ2_clear_0 2 rfl rfl)
theorem dJ2_clear_5 : decode cJ2_clear 5 = .ok (.iconst 1, 1) := dk_4 (dk_at dksJ2_clear_0 5 rfl rfl)
theorem dJ2_clear_6 : decode cJ2_clear 6 = .ok (.iadd, 1) := dk_96 (dk_at dksJ2_clear_0 6 rfl rfl)
theorem dJ2_clear_7 : decode cJ2_clear 7 = .ok (.putfield 63, 3) := dk_181 0 63 (dk_at dksJ2_clear_0 7 rfl rfl)
theorem dJ2_clear_10 : decode cJ2_clear 10 = .ok (.aload_n 0, 1) := dk_42 (dk_at dksJ2_clear_0 10 rfl rfl)
theorem dJ2_clear_11 : decode cJ2_clear 11 = .ok (.getfield 9, 3) := dk_180 0 9 (dk_at dksJ2_clear_0 11 rfl rfl)
theorem dJ2_clear_14 : decode cJ2_clear 14 = .ok (.astore_n 1, 1) := dk_76 (dk_at dksJ2_clear_0 14 rfl rfl)
theorem dJ2_clear_15 : decode cJ2_clear 15 = .ok (.aload_n 0, 1) := dk_42 (dk_at dksJ2_clear_0 15 rfl rfl)
theorem dJ2_clear_16 : decode cJ2_clear 16 = .ok (.getfield 48, 3) := dk_180 0 48 (dk_at dksJ2_clear_0 16 rfl rfl)
theorem dJ2_clear_19 : decode cJ2_clear 19 = .ok (.istore_n 2, 1) := dk_61 (dk_at dksJ2_clear_0 19 rfl rfl)
theorem dJ2_clear_20 : decode cJ2_clear 20 = .ok (.aload_n 0, 1) := dk_42 (dk_at dksJ2_clear_0 20 rfl rfl)
theorem dJ2_clear_21 : decode cJ2_clear 21 = .ok (.iconst 0, 1) := dk_3 (dk_at dksJ2_clear_0 21 rfl rfl)
theorem dJ2_clear_22 : decode cJ2_clear 22 = .ok (.dup_x1, 1) := dk_90 (dk_at dksJ2_clear_0 22 rfl rfl)
theorem dJ2_clear_23 : decode cJ2_clear 23 = .ok (.putfield 48, 3) := dk_181 0 48 (dk_at dksJ2_clear_1 0 rfl rfl)
theorem dJ2_clear_26 : decode cJ2_clear 26 = .ok (.istore_n 3, 1) := dk_62 (dk_at dksJ2_clear_1 3 rfl rfl)
theorem dJ2_clear_27 : decode cJ2_clear 27 = .ok (.iload_n 3, 1) := dk_29 (dk_at dksJ2_clear_1 4 rfl rfl)
theorem dJ2_clear_28 : decode cJ2_clear 28 = .ok (.iload_n 2, 1) := dk_28 (dk_at dksJ2_clear_1 5 rfl rfl)
theorem dJ2_clear_29 : decode cJ2_clear 29 = .ok (.if_icmp .ge 13, 3) := dk_162 0 13 (dk_at dksJ2_clear_1 6 rfl rfl)
theorem dJ2_clear_32 : decode cJ2_clear 32 = .ok (.aload_n 1, 1) := dk_43 (dk_at dksJ2_clear_1 9 rfl rfl)
theorem dJ2_clear_33 : decode cJ2_clear 33 = .ok (.iload_n 3, 1) := dk_29 (dk_at dksJ2_clear_1 10 rfl rfl)
theorem dJ2_clear_34 : decode cJ2_clear 34 = .ok (.aconst_null, 1) := dk_1 (dk_at dksJ2_clear_1 11 rfl rfl)
theorem dJ2_clear_35 : decode cJ2_clear 35 = .ok (.aastore, 1) := dk_83 (dk_at dksJ2_clear_1 12 rfl rfl)
theorem dJ2_clear_36 : decode cJ2_clear 36 = .ok (.iinc 3 1, 3) := dk_132 3 1 (dk_at dksJ2_clear_1 13 rfl rfl)
theorem dJ2_clear_39 : decode cJ2_clear 39 = .ok (.goto (-12), 3) := dk_167 255 244 (dk_at dksJ2_clear_1 16 rfl rfl)
theorem dJ2_clear_42 : decode cJ2_clear 42 = .ok (.return_, 1) := dk_177 (dk_at dksJ2_clear_1 19 rfl rfl)
abbrev iJ2_clear : xM := (yJ2_clear, cJ2_clear, 4, none, [])
theorem mJ2_clear : xOkM iJ2_clear := ⟨by decide +kernel, by decide, q1961, q135⟩
abbrev cJ2_get : ByteArray := prog_55_method_20_code
def yJ2_get : MethodName := ⟨RJ2, "get", "(I)Ljava/lang/Object;"⟩
def dkwJ2_get_0 : List UInt8 := [27, 42, 180, 0, 48, 184, 0, 118, 87, 42, 27, 182, 0, 123, 176]
abbrev dktJ2_get_0 : List UInt8 := dkwJ2_get_0 ++ []
theorem dksJ2_get_0 : cJ2_get.data.toList.drop 0 = dktJ2_get_0 := by decide +kernel
theorem dJ2_get_0 : decode cJ2_get 0 = .ok (.iload_n 1, 1) := dk_27 (dk_at dksJ2_get_0 0 rfl rfl)
theorem dJ2_get_1 : decode cJ2_get 1 = .ok (.aload_n 0, 1) := dk_42 (dk_at dksJ2_get_0 1 rfl rfl)
theorem dJ2_get_2 : decode cJ2_get 2 = .ok (.getfield 48, 3) := dk_180 0 48 (dk_at dksJ2_get_0 2 rfl rfl)
theorem dJ2_get_5 : decode cJ2_get 5 = .ok (.invokestatic 118, 3) := dk_184 0 118 (dk_at dksJ2_get_0 5 rfl rfl)
theorem dJ2_get_8 : decode cJ2_get 8 = .ok (.pop, 1) := dk_87 (dk_at dksJ2_get_0 8 rfl rfl)
theorem dJ2_get_9 : decode cJ2_get 9 = .ok (.aload_n 0, 1) := dk_42 (dk_at dksJ2_get_0 9 rfl rfl)
theorem dJ2_get_10 : decode cJ2_get 10 = .ok (.iload_n 1, 1) := dk_27 (dk_at dksJ2_get_0 10 rfl rfl)
theorem dJ2_get_11 : decode cJ2_get 11 = .ok (.invokevirtual 123, 3) := dk_182 0 123 (dk_at dksJ2_get_0 11 rfl rfl)
theorem dJ2_get_14 : decode cJ2_get 14 = .ok (.areturn, 1) := dk_176 (dk_at dksJ2_get_0 14 rfl rfl)
abbrev iJ2_get : xM := (yJ2_get, cJ2_get, 2, (some (.object "java/lang/Object")), [])
theorem mJ2_get : xOkM iJ2_get := ⟨by decide +kernel, by decide, q2137, q135⟩
abbrev cJ2_elementData : ByteArray := prog_55_method_18_code
def yJ2_elementData : MethodName := ⟨RJ2, "elementData", "(I)Ljava/lang/Object;"⟩
def dkwJ2_elementData_0 : List UInt8 := [42, 180, 0, 9, 27, 50, 176]
abbrev dktJ2_elementData_0 : List UInt8 := dkwJ2_elementData_0 ++ []
theorem dksJ2_elementData_0 : cJ2_elementData.data.toList.drop 0 = dktJ2_elementData_0 := by decide +kernel
theorem dJ2_elementData_0 : decode cJ2_elementData 0 = .ok (.aload_n 0, 1) := dk_42 (dk_at dksJ2_elementData_0 0 rfl rfl)
theorem dJ2_elementData_1 : decode cJ2_elementData 1 = .ok (.getfield 9, 3) := dk_180 0 9 (dk_at dksJ2_elementData_0 1 rfl rfl)
theorem dJ2_elementData_4 : decode cJ2_elementData 4 = .ok (.iload_n 1, 1) := dk_27 (dk_at dksJ2_elementData_0 4 rfl rfl)
theorem dJ2_elementData_5 : decode cJ2_elementData 5 = .ok (.aaload, 1) := dk_50 (dk_at dksJ2_elementData_0 5 rfl rfl)
theorem dJ2_elementData_6 : decode cJ2_elementData 6 = .ok (.areturn, 1) := dk_176 (dk_at dksJ2_elementData_0 6 rfl rfl)
abbrev iJ2_elementData : xM := (yJ2_elementData, cJ2_elementData, 2, (some (.object "java/lang/Object")), [])
theorem mJ2_elementData : xOkM iJ2_elementData := ⟨by decide +kernel, by decide, q2145, q135⟩
abbrev cJ2_iterator : ByteArray := prog_55_method_55_code
def yJ2_iterator : MethodName := ⟨RJ2, "iterator", "()Ljava/util/Iterator;"⟩
def dkwJ2_iterator_0 : List UInt8 := [187, 1, 11, 89, 42, 183, 1, 13, 176]
abbrev dktJ2_iterator_0 : List UInt8 := dkwJ2_iterator_0 ++ []
theorem dksJ2_iterator_0 : cJ2_iterator.data.toList.drop 0 = dktJ2_iterator_0 := by decide +kernel
theorem dJ2_iterator_0 : decode cJ2_iterator 0 = .ok (.new 267, 3) := dk_187 1 11 (dk_at dksJ2_iterator_0 0 rfl rfl)
theorem dJ2_iterator_3 : decode cJ2_iterator 3 = .ok (.dup, 1) := dk_89 (dk_at dksJ2_iterator_0 3 rfl rfl)
theorem dJ2_iterator_4 : decode cJ2_iterator 4 = .ok (.aload_n 0, 1) := dk_42 (dk_at dksJ2_iterator_0 4 rfl rfl)
theorem dJ2_iterator_5 : decode cJ2_iterator 5 = .ok (.invokespecial 269, 3) := dk_183 1 13 (dk_at dksJ2_iterator_0 5 rfl rfl)
theorem dJ2_iterator_8 : decode cJ2_iterator 8 = .ok (.areturn, 1) := dk_176 (dk_at dksJ2_iterator_0 8 rfl rfl)
abbrev iJ2_iterator : xM := (yJ2_iterator, cJ2_iterator, 1, (some (.object "java/util/Iterator")), [])
theorem mJ2_iterator : xOkM iJ2_iterator := ⟨by decide +kernel, by decide, q2272, q135⟩
abbrev cJ2_set : ByteArray := prog_55_method_23_code
def yJ2_set : MethodName := ⟨RJ2, "set", "(ILjava/lang/Object;)Ljava/lang/Object;"⟩
def dkwJ2_set_0 : List UInt8 := [27, 42, 180, 0, 48, 184, 0, 118, 87, 42, 27, 182, 0, 123, 78, 42, 180, 0, 9, 27, 44, 83, 45, 176]
abbrev dktJ2_set_0 : List UInt8 := dkwJ2_set_0 ++ []
theorem dksJ2_set_0 : cJ2_set.data.toList.drop 0 = dktJ2_set_0 := by decide +kernel
theorem dJ2_set_0 : decode cJ2_set 0 = .ok (.iload_n 1, 1) := dk_27 (dk_at dksJ2_set_0 0 rfl rfl)
theorem dJ2_set_1 : decode cJ2_set 1 = .ok (.aload_n 0, 1) := dk_42 (dk_at dksJ2_set_0 1 rfl rfl)
theorem dJ2_set_2 : decode cJ2_set 2 = .ok (.getfield 48, 3) := dk_180 0 48 (dk_at dksJ2_set_0 2 rfl rfl)
theorem dJ2_set_5 : decode cJ2_set 5 = .ok (.invokestatic 118, 3) := dk_184 0 118 (dk_at dksJ2_set_0 5 rfl rfl)
theorem dJ2_set_8 : decode cJ2_set 8 = .ok (.pop, 1) := dk_87 (dk_at dksJ2_set_0 8 rfl rfl)
theorem dJ2_set_9 : decode cJ2_set 9 = .ok (.aload_n 0, 1) := dk_42 (dk_at dksJ2_set_0 9 rfl rfl)
theorem dJ2_set_10 : decode cJ2_set 10 = .ok (.iload_n 1, 1) := dk_27 (dk_at dksJ2_set_0 10 rfl rfl)
theorem dJ2_set_11 : decode cJ2_set 11 = .ok (.invokevirtual 123, 3) := dk_182 0 123 (dk_at dksJ2_set_0 11 rfl rfl)
theorem dJ2_set_14 : decode cJ2_set 14 = .ok (.astore_n 3, 1) := dk_78 (dk_at dksJ2_set_0 14 rfl rfl)
theorem dJ2_set_15 : decode cJ2_set 15 = .ok (.aload_n 0, 1) := dk_42 (dk_at dksJ2_set_0 15 rfl rfl)
theorem dJ2_set_16 : decode cJ2_set 16 = .ok (.getfield 9, 3) := dk_180 0 9 (dk_at dksJ2_set_0 16 rfl rfl)
theorem dJ2_set_19 : decode cJ2_set 19 = .ok (.iload_n 1, 1) := dk_27 (dk_at dksJ2_set_0 19 rfl rfl)
theorem dJ2_set_20 : decode cJ2_set 20 = .ok (.aload_n 2, 1) := dk_44 (dk_at dksJ2_set_0 20 rfl rfl)
theorem dJ2_set_21 : decode cJ2_set 21 = .ok (.aastore, 1) := dk_83 (dk_at dksJ2_set_0 21 rfl rfl)
theorem dJ2_set_22 : decode cJ2_set 22 = .ok (.aload_n 3, 1) := dk_45 (dk_at dksJ2_set_0 22 rfl rfl)
theorem dJ2_set_23 : decode cJ2_set 23 = .ok (.areturn, 1) := dk_176 (dk_at dksJ2_set_0 23 rfl rfl)
abbrev iJ2_set : xM := (yJ2_set, cJ2_set, 4, (some (.object "java/lang/Object")), [])
theorem mJ2_set : xOkM iJ2_set := ⟨by decide +kernel, by decide, q2783, q135⟩
abbrev cJ2_remove : ByteArray := prog_55_method_29_code
def yJ2_remove : MethodName := ⟨RJ2, "remove", "(I)Ljava/lang/Object;"⟩
def dkwJ2_remove_1 : List UInt8 := [45, 176]
abbrev dktJ2_remove_1 : List UInt8 := dkwJ2_remove_1 ++ []
def dkwJ2_remove_0 : List UInt8 := [27, 42, 180, 0, 48, 184, 0, 118, 87, 42, 180, 0, 9, 77, 44, 27, 50, 78, 42, 44, 27, 182, 0, 144]
abbrev dktJ2_remove_0 : List UInt8 := dkwJ2_remove_0 ++ dktJ2_remove_1
theorem dksJ2_remove_0 : cJ2_remove.data.toList.drop 0 = dktJ2_remove_0 := by decide +kernel
theorem dksJ2_remove_1 : cJ2_remove.data.toList.drop 24 = dktJ2_remove_1 := dk_seg dksJ2_remove_0 24 rfl rfl
theorem dJ2_remove_0 : decode cJ2_remove 0 = .ok (.iload_n 1, 1) := dk_27 (dk_at dksJ2_remove_0 0 rfl rfl)
theorem dJ2_remove_1 : decode cJ2_remove 1 = .ok (.aload_n 0, 1) := dk_42 (dk_at dksJ2_remove_0 1 rfl rfl)
theorem dJ2_remove_2 : decode cJ2_remove 2 = .ok (.getfield 48, 3) := dk_180 0 48 (dk_at dksJ2_remove_0 2 rfl rfl)
theorem dJ2_remove_5 : decode cJ2_remove 5 = .ok (.invokestatic 118, 3) := dk_184 0 118 (dk_at dksJ2_remove_0 5 rfl rfl)
theorem dJ2_remove_8 : decode cJ2_remove 8 = .ok (.pop, 1) := dk_87 (dk_at dksJ2_remove_0 8 rfl rfl)
theorem dJ2_remove_9 : decode cJ2_remove 9 = .ok (.aload_n 0, 1) := dk_42 (dk_at dksJ2_remove_0 9 rfl rfl)
theorem dJ2_remove_10 : decode cJ2_remove 10 = .ok (.getfield 9, 3) := dk_180 0 9 (dk_at dksJ2_remove_0 10 rfl rfl)
theorem dJ2_remove_13 : decode cJ2_remove 13 = .ok (.astore_n 2, 1) := dk_77 (dk_at dksJ2_remove_0 13 rfl rfl)
theorem dJ2_remove_14 : decode cJ2_remove 14 = .ok (.aload_n 2, 1) := dk_44 (dk_at dksJ2_remove_0 14 rfl rfl)
theorem dJ2_remove_15 : decode cJ2_remove 15 = .ok (.iload_n 1, 1) := dk_27 (dk_at dksJ2_remove_0 15 rfl rfl)
theorem dJ2_remove_16 : decode cJ2_remove 16 = .ok (.aaload, 1) := dk_50 (dk_at dksJ2_remove_0 16 rfl rfl)
theorem dJ2_remove_17 : decode cJ2_remove 17 = .ok (.astore_n 3, 1) := dk_78 (dk_at dksJ2_remove_0 17 rfl rfl)
theorem dJ2_remove_18 : decode cJ2_remove 18 = .ok (.aload_n 0, 1) := dk_42 (dk_at dksJ2_remove_0 18 rfl rfl)
theorem dJ2_remove_19 : decode cJ2_remove 19 = .ok (.aload_n 2, 1) := dk_44 (dk_at dksJ2_remove_0 19 rfl rfl)
theorem dJ2_remove_20 : decode cJ2_remove 20 = .ok (.iload_n 1, 1) := dk_27 (dk_at dksJ2_remove_0 20 rfl rfl)
theorem dJ2_remove_21 : decode cJ2_remove 21 = .ok (.invokevirtual 144, 3) := dk_182 0 144 (dk_at dksJ2_remove_0 21 rfl rfl)
theorem dJ2_remove_24 : decode cJ2_remove 24 = .ok (.aload_n 3, 1) := dk_45 (dk_at dksJ2_remove_1 0 rfl rfl)
theorem dJ2_remove_25 : decode cJ2_remove 25 = .ok (.areturn, 1) := dk_176 (dk_at dksJ2_remove_1 1 rfl rfl)
abbrev iJ2_remove : xM := (yJ2_remove, cJ2_remove, 4, (some (.object "java/lang/Object")), [])
theorem mJ2_remove : xOkM iJ2_remove := ⟨by decide +kernel, by decide, q2791, q135⟩
abbrev cJ2_fastRemove : ByteArray := prog_55_method_39_code
def yJ2_fastRemove : MethodName := ⟨RJ2, "fastRemove", "([Ljava/lang/Object;I)V"⟩
def dkwJ2_fastRemove_1 : List UInt8 := [4, 96, 43, 28, 29, 28, 100, 184, 0, 112, 43, 42, 29, 90, 181, 0, 48, 1, 83, 177]
abbrev dktJ2_fastRemove_1 : List UInt8 := dkwJ2_fastRemove_1 ++ []
def dkwJ2_fastRemove_0 : List UInt8 := [42, 89, 180, 0, 63, 4, 96, 181, 0, 63, 42, 180, 0, 48, 4, 100, 89, 62, 28, 164, 0, 15, 43, 28]
abbrev dktJ2_fastRemove_0 : List UInt8 := dkwJ2_fastRemove_0 ++ dktJ2_fastRemove_1
theorem dksJ2_fastRemove_0 : cJ2_fastRemove.data.toList.drop 0 = dktJ2_fastRemove_0 := by decide +kernel
theorem dksJ2_fastRemove_1 : cJ2_fastRemove.data.toList.drop 24 = dktJ2_fastRemove_1 := dk_seg dksJ2_fastRemove_0 24 rfl rfl
theorem dJ2_fastRemove_0 : decode cJ2_fastRemove 0 = .ok (.aload_n 0, 1) := dk_42 (dk_at dksJ2_fastRemove_0 0 rfl rfl)
theorem dJ2_fastRemove_1 : decode cJ2_fastRemove 1 = .ok (.dup, 1) := dk_89 (dk_at dksJ2_fastRemove_0 1 rfl rfl)
theorem dJ2_fastRemove_2 : decode cJ2_fastRemove 2 = .ok (.getfield 63, 3) := dk_180 0 63 (dk_at dksJ2_fastRemove_0 2 rfl rfl)
theorem dJ2_fastRemove_5 : decode cJ2_fastRemove 5 = .ok (.iconst 1, 1) := dk_4 (dk_at dksJ2_fastRemove_0 5 rfl rfl)
theorem dJ2_fastRemove_6 : decode cJ2_fastRemove 6 = .ok (.iadd, 1) := dk_96 (dk_at dksJ2_fastRemove_0 6 rfl rfl)
theorem dJ2_fastRemove_7 : decode cJ2_fastRemove 7 = .ok (.putfield 63, 3) := dk_181 0 63 (dk_at dksJ2_fastRemove_0 7 rfl rfl)
theorem dJ2_fastRemove_10 : decode cJ2_fastRemove 10 = .ok (.aload_n 0, 1) := dk_42 (dk_at dksJ2_fastRemove_0 10 rfl rfl)
theorem dJ2_fastRemove_11 : decode cJ2_fastRemove 11 = .ok (.getfield 48, 3) := dk_180 0 48 (dk_at dksJ2_fastRemove_0 11 rfl rfl)
theorem dJ2_fastRemove_14 : decode cJ2_fastRemove 14 = .ok (.iconst 1, 1) := dk_4 (dk_at dksJ2_fastRemove_0 14 rfl rfl)
theorem dJ2_fastRemove_15 : decode cJ2_fastRemove 15 = .ok (.isub, 1) := dk_100 (dk_at dksJ2_fastRemove_0 15 rfl rfl)
theorem dJ2_fastRemove_16 : decode cJ2_fastRemove 16 = .ok (.dup, 1) := dk_89 (dk_at dksJ2_fastRemove_0 16 rfl rfl)
theorem dJ2_fastRemove_17 : decode cJ2_fastRemove 17 = .ok (.istore_n 3, 1) := dk_62 (dk_at dksJ2_fastRemove_0 17 rfl rfl)
theorem dJ2_fastRemove_18 : decode cJ2_fastRemove 18 = .ok (.iload_n 2, 1) := dk_28 (dk_at dksJ2_fastRemove_0 18 rfl rfl)
theorem dJ2_fastRemove_19 : decode cJ2_fastRemove 19 = .ok (.if_icmp .le 15, 3) := dk_164 0 15 (dk_at dksJ2_fastRemove_0 19 rfl rfl)
theorem dJ2_fastRemove_22 : decode cJ2_fastRemove 22 = .ok (.aload_n 1, 1) := dk_43 (dk_at dksJ2_fastRemove_0 22 rfl rfl)
theorem dJ2_fastRemove_23 : decode cJ2_fastRemove 23 = .ok (.iload_n 2, 1) := dk_28 (dk_at dksJ2_fastRemove_0 23 rfl rfl)
theorem dJ2_fastRemove_24 : decode cJ2_fastRemove 24 = .ok (.iconst 1, 1) := dk_4 (dk_at dksJ2_fastRemove_1 0 rfl rfl)
theorem dJ2_fastRemove_25 : decode cJ2_fastRemove 25 = .ok (.iadd, 1) := dk_96 (dk_at dksJ2_fastRemove_1 1 rfl rfl)
theorem dJ2_fastRemove_26 : decode cJ2_fastRemove 26 = .ok (.aload_n 1, 1) := dk_43 (dk_at dksJ2_fastRemove_1 2 rfl rfl)
theorem dJ2_fastRemove_27 : decode cJ2_fastRemove 27 = .ok (.iload_n 2, 1) := dk_28 (dk_at dksJ2_fastRemove_1 3 rfl rfl)
theorem dJ2_fastRemove_28 : decode cJ2_fastRemove 28 = .ok (.iload_n 3, 1) := dk_29 (dk_at dksJ2_fastRemove_1 4 rfl rfl)
theorem dJ2_fastRemove_29 : decode cJ2_fastRemove 29 = .ok (.iload_n 2, 1) := dk_28 (dk_at dksJ2_fastRemove_1 5 rfl rfl)
theorem dJ2_fastRemove_30 : decode cJ2_fastRemove 30 = .ok (.isub, 1) := dk_100 (dk_at dksJ2_fastRemove_1 6 rfl rfl)
theorem dJ2_fastRemove_31 : decode cJ2_fastRemove 31 = .ok (.invokestatic 112, 3) := dk_184 0 112 (dk_at dksJ2_fastRemove_1 7 rfl rfl)
theorem dJ2_fastRemove_34 : decode cJ2_fastRemove 34 = .ok (.aload_n 1, 1) := dk_43 (dk_at dksJ2_fastRemove_1 10 rfl rfl)
theorem dJ2_fastRemove_35 : decode cJ2_fastRemove 35 = .ok (.aload_n 0, 1) := dk_42 (dk_at dksJ2_fastRemove_1 11 rfl rfl)
theorem dJ2_fastRemove_36 : decode cJ2_fastRemove 36 = .ok (.iload_n 3, 1) := dk_29 (dk_at dksJ2_fastRemove_1 12 rfl rfl)
theorem dJ2_fastRemove_37 : decode cJ2_fastRemove 37 = .ok (.dup_x1, 1) := dk_90 (dk_at dksJ2_fastRemove_1 13 rfl rfl)
theorem dJ2_fastRemove_38 : decode cJ2_fastRemove 38 = .ok (.putfield 48, 3) := dk_181 0 48 (dk_at dksJ2_fastRemove_1 14 rfl rfl)
theorem dJ2_fastRemove_41 : decode cJ2_fastRemove 41 = .ok (.aconst_null, 1) := dk_1 (dk_at dksJ2_fastRemove_1 17 rfl rfl)
theorem dJ2_fastRemove_42 : decode cJ2_fastRemove 42 = .ok (.aastore, 1) := dk_83 (dk_at dksJ2_fastRemove_1 18 rfl rfl)
theorem dJ2_fastRemove_43 : decode cJ2_fastRemove 43 = .ok (.return_, 1) := dk_177 (dk_at dksJ2_fastRemove_1 19 rfl rfl)
abbrev iJ2_fastRemove : xM := (yJ2_fastRemove, cJ2_fastRemove, 4, none, [])
theorem mJ2_fastRemove : xOkM iJ2_fastRemove := ⟨by decide +kernel, by decide, q2795, q135⟩
abbrev cJ38_init : ByteArray := prog_56_method_1_code
def yJ38_init : MethodName := ⟨RJ38, "<init>", "(Ljava/util/ArrayList;)V"⟩
def dkwJ38_init_1 : List UInt8 := [181, 0, 22, 177]
abbrev dktJ38_init_1 : List UInt8 := dkwJ38_init_1 ++ []
def dkwJ38_init_0 : List UInt8 := [42, 43, 181, 0, 1, 42, 183, 0, 7, 42, 2, 181, 0, 13, 42, 42, 180, 0, 1, 180, 0, 17]
abbrev dktJ38_init_0 : List UInt8 := dkwJ38_init_0 ++ dktJ38_init_1
theorem dksJ38_init_0 : cJ38_init.data.toList.drop 0 = dktJ38_init_0 := by decide +kernel
theorem dksJ38_init_1 : cJ38_init.data.toList.drop 22 = dktJ38_init_1 := dk_seg dksJ38_init_0 22 rfl rfl
theorem dJ38_init_0 : decode cJ38_init 0 = .ok (.aload_n 0, 1) := dk_42 (dk_at dksJ38_init_0 0 rfl rfl)
theorem dJ38_init_1 : decode cJ38_init 1 = .ok (.aload_n 1, 1) := dk_43 (dk_at dksJ38_init_0 1 rfl rfl)
theorem dJ38_init_2 : decode cJ38_init 2 = .ok (.putfield 1, 3) := dk_181 0 1 (dk_at dksJ38_init_0 2 rfl rfl)
theorem dJ38_init_5 : decode cJ38_init 5 = .ok (.aload_n 0, 1) := dk_42 (dk_at dksJ38_init_0 5 rfl rfl)
theorem dJ38_init_6 : decode cJ38_init 6 = .ok (.invokespecial 7, 3) := dk_183 0 7 (dk_at dksJ38_init_0 6 rfl rfl)
theorem dJ38_init_9 : decode cJ38_init 9 = .ok (.aload_n 0, 1) := dk_42 (dk_at dksJ38_init_0 9 rfl rfl)
theorem dJ38_init_10 : decode cJ38_init 10 = .ok (.iconst (-1), 1) := dk_2 (dk_at dksJ38_init_0 10 rfl rfl)
theorem dJ38_init_11 : decode cJ38_init 11 = .ok (.putfield 13, 3) := dk_181 0 13 (dk_at dksJ38_init_0 11 rfl rfl)
theorem dJ38_init_14 : decode cJ38_init 14 = .ok (.aload_n 0, 1) := dk_42 (dk_at dksJ38_init_0 14 rfl rfl)
theorem dJ38_init_15 : decode cJ38_init 15 = .ok (.aload_n 0, 1) := dk_42 (dk_at dksJ38_init_0 15 rfl rfl)
theorem dJ38_init_16 : decode cJ38_init 16 = .ok (.getfield 1, 3) := dk_180 0 1 (dk_at dksJ38_init_0 16 rfl rfl)
theorem dJ38_init_19 : decode cJ38_init 19 = .ok (.getfield 17, 3) := dk_180 0 17 (dk_at dksJ38_init_0 19 rfl rfl)
theorem dJ38_init_22 : decode cJ38_init 22 = .ok (.putfield 22, 3) := dk_181 0 22 (dk_at dksJ38_init_1 0 rfl rfl)
theorem dJ38_init_25 : decode cJ38_init 25 = .ok (.return_, 1) := dk_177 (dk_at dksJ38_init_1 3 rfl rfl)
abbrev iJ38_init : xM := (yJ38_init, cJ38_init, 2, none, [])
theorem mJ38_init : xOkM iJ38_init := ⟨by decide +kernel, by decide, q2277, q182⟩
abbrev cJ38_hasNext : ByteArray := prog_56_method_2_code
def yJ38_hasNext : MethodName := ⟨RJ38, "hasNext", "()Z"⟩
def dkwJ38_hasNext_0 : List UInt8 := [42, 180, 0, 25, 42, 180, 0, 1, 180, 0, 28, 159, 0, 7, 4, 167, 0, 4, 3, 172]
abbrev dktJ38_hasNext_0 : List UInt8 := dkwJ38_hasNext_0 ++ []
theorem dksJ38_hasNext_0 : cJ38_hasNext.data.toList.drop 0 = dktJ38_hasNext_0 := by decide +kernel
theorem dJ38_hasNext_0 : decode cJ38_hasNext 0 = .ok (.aload_n 0, 1) := dk_42 (dk_at dksJ38_hasNext_0 0 rfl rfl)
theorem dJ38_hasNext_1 : decode cJ38_hasNext 1 = .ok (.getfield 25, 3) := dk_180 0 25 (dk_at dksJ38_hasNext_0 1 rfl rfl)
theorem dJ38_hasNext_4 : decode cJ38_hasNext 4 = .ok (.aload_n 0, 1) := dk_42 (dk_at dksJ38_hasNext_0 4 rfl rfl)
theorem dJ38_hasNext_5 : decode cJ38_hasNext 5 = .ok (.getfield 1, 3) := dk_180 0 1 (dk_at dksJ38_hasNext_0 5 rfl rfl)
theorem dJ38_hasNext_8 : decode cJ38_hasNext 8 = .ok (.getfield 28, 3) := dk_180 0 28 (dk_at dksJ38_hasNext_0 8 rfl rfl)
theorem dJ38_hasNext_11 : decode cJ38_hasNext 11 = .ok (.if_icmp .eq 7, 3) := dk_159 0 7 (dk_at dksJ38_hasNext_0 11 rfl rfl)
theorem dJ38_hasNext_14 : decode cJ38_hasNext 14 = .ok (.iconst 1, 1) := dk_4 (dk_at dksJ38_hasNext_0 14 rfl rfl)
theorem dJ38_hasNext_15 : decode cJ38_hasNext 15 = .ok (.goto 4, 3) := dk_167 0 4 (dk_at dksJ38_hasNext_0 15 rfl rfl)
theorem dJ38_hasNext_18 : decode cJ38_hasNext 18 = .ok (.iconst 0, 1) := dk_3 (dk_at dksJ38_hasNext_0 18 rfl rfl)
theorem dJ38_hasNext_19 : decode cJ38_hasNext 19 = .ok (.ireturn, 1) := dk_172 (dk_at dksJ38_hasNext_0 19 rfl rfl)
abbrev iJ38_hasNext : xM := (yJ38_hasNext, cJ38_hasNext, 1, (some .boolean), [])
theorem mJ38_hasNext : xOkM iJ38_hasNext := ⟨by decide +kernel, by decide, q2307, q182⟩
abbrev cJ38_next : ByteArray := prog_56_method_3_code
def yJ38_next : MethodName := ⟨RJ38, "next", "()Ljava/lang/Object;"⟩
def dkwJ38_next_2 : List UInt8 := [183, 0, 43, 191, 42, 27, 4, 96, 181, 0, 25, 44, 42, 27, 90, 181, 0, 13, 50, 176]
abbrev dktJ38_next_2 : List UInt8 := dkwJ38_next_2 ++ []
def dkwJ38_next_1 : List UInt8 := [183, 0, 36, 191, 42, 180, 0, 1, 180, 0, 37, 77, 27, 44, 190, 161, 0, 11, 187, 0, 41, 89]
abbrev dktJ38_next_1 : List UInt8 := dkwJ38_next_1 ++ dktJ38_next_2
def dkwJ38_next_0 : List UInt8 := [42, 182, 0, 31, 42, 180, 0, 25, 60, 27, 42, 180, 0, 1, 180, 0, 28, 161, 0, 11, 187, 0, 34, 89]
abbrev dktJ38_next_0 : List UInt8 := dkwJ38_next_0 ++ dktJ38_next_1
theorem dksJ38_next_0 : cJ38_next.data.toList.drop 0 = dktJ38_next_0 := by decide +kernel
theorem dksJ38_next_1 : cJ38_next.data.toList.drop 24 = dktJ38_next_1 := dk_seg dksJ38_next_0 24 rfl rfl
theorem dksJ38_next_2 : cJ38_next.data.toList.drop 46 = dktJ38_next_2 := dk_seg dksJ38_next_1 22 rfl rfl
theorem dJ38_next_0 : decode cJ38_next 0 = .ok (.aload_n 0, 1) := dk_42 (dk_at dksJ38_next_0 0 rfl rfl)
theorem dJ38_next_1 : decode cJ38_next 1 = .ok (.invokevirtual 31, 3) := dk_182 0 31 (dk_at dksJ38_next_0 1 rfl rfl)
theorem dJ38_next_4 : decode cJ38_next 4 = .ok (.aload_n 0, 1) := dk_42 (dk_at dksJ38_next_0 4 rfl rfl)
theorem dJ38_next_5 : decode cJ38_next 5 = .ok (.getfield 25, 3) := dk_180 0 25 (dk_at dksJ38_next_0 5 rfl rfl)
theorem dJ38_next_8 : decode cJ38_next 8 = .ok (.istore_n 1, 1) := dk_60 (dk_at dksJ38_next_0 8 rfl rfl)
theorem dJ38_next_9 : decode cJ38_next 9 = .ok (.iload_n 1, 1) := dk_27 (dk_at dksJ38_next_0 9 rfl rfl)
theorem dJ38_next_10 : decode cJ38_next 10 = .ok (.aload_n 0, 1) := dk_42 (dk_at dksJ38_next_0 10 rfl rfl)
theorem dJ38_next_11 : decode cJ38_next 11 = .ok (.getfield 1, 3) := dk_180 0 1 (dk_at dksJ38_next_0 11 rfl rfl)
theorem dJ38_next_14 : decode cJ38_next 14 = .ok (.getfield 28, 3) := dk_180 0 28 (dk_at dksJ38_next_0 14 rfl rfl)
theorem dJ38_next_17 : decode cJ38_next 17 = .ok (.if_icmp .lt 11, 3) := dk_161 0 11 (dk_at dksJ38_next_0 17 rfl rfl)
theorem dJ38_next_20 : decode cJ38_next 20 = .ok (.new 34, 3) := dk_187 0 34 (dk_at dksJ38_next_0 20 rfl rfl)
theorem dJ38_next_23 : decode cJ38_next 23 = .ok (.dup, 1) := dk_89 (dk_at dksJ38_next_0 23 rfl rfl)
theorem dJ38_next_24 : decode cJ38_next 24 = .ok (.invokespecial 36, 3) := dk_183 0 36 (dk_at dksJ38_next_1 0 rfl rfl)
theorem dJ38_next_27 : decode cJ38_next 27 = .ok (.athrow, 1) := dk_191 (dk_at dksJ38_next_1 3 rfl rfl)
theorem dJ38_next_28 : decode cJ38_next 28 = .ok (.aload_n 0, 1) := dk_42 (dk_at dksJ38_next_1 4 rfl rfl)
theorem dJ38_next_29 : decode cJ38_next 29 = .ok (.getfield 1, 3) := dk_180 0 1 (dk_at dksJ38_next_1 5 rfl rfl)
theorem dJ38_next_32 : decode cJ38_next 32 = .ok (.getfield 37, 3) := dk_180 0 37 (dk_at dksJ38_next_1 8 rfl rfl)
theorem dJ38_next_35 : decode cJ38_next 35 = .ok (.astore_n 2, 1) := dk_77 (dk_at dksJ38_next_1 11 rfl rfl)
theorem dJ38_next_36 : decode cJ38_next 36 = .ok (.iload_n 1, 1) := dk_27 (dk_at dksJ38_next_1 12 rfl rfl)
theorem dJ38_next_37 : decode cJ38_next 37 = .ok (.aload_n 2, 1) := dk_44 (dk_at dksJ38_next_1 13 rfl rfl)
theorem dJ38_next_38 : decode cJ38_next 38 = .ok (.arraylength, 1) := dk_190 (dk_at dksJ38_next_1 14 rfl rfl)
theorem dJ38_next_39 : decode cJ38_next 39 = .ok (.if_icmp .lt 11, 3) := dk_161 0 11 (dk_at dksJ38_next_1 15 rfl rfl)
theorem dJ38_next_42 : decode cJ38_next 42 = .ok (.new 41, 3) := dk_187 0 41 (dk_at dksJ38_next_1 18 rfl rfl)
theorem dJ38_next_45 : decode cJ38_next 45 = .ok (.dup, 1) := dk_89 (dk_at dksJ38_next_1 21 rfl rfl)
theorem dJ38_next_46 : decode cJ38_next 46 = .ok (.invokespecial 43, 3) := dk_183 0 43 (dk_at dksJ38_next_2 0 rfl rfl)
theorem dJ38_next_49 : decode cJ38_next 49 = .ok (.athrow, 1) := dk_191 (dk_at dksJ38_next_2 3 rfl rfl)
theorem dJ38_next_50 : decode cJ38_next 50 = .ok (.aload_n 0, 1) := dk_42 (dk_at dksJ38_next_2 4 rfl rfl)
theorem dJ38_next_51 : decode cJ38_next 51 = .ok (.iload_n 1, 1) := dk_27 (dk_at dksJ38_next_2 5 rfl rfl)
theorem dJ38_next_52 : decode cJ38_next 52 = .ok (.iconst 1, 1) := dk_4 (dk_at dksJ38_next_2 6 rfl rfl)
theorem dJ38_next_53 : decode cJ38_next 53 = .ok (.iadd, 1) := dk_96 (dk_at dksJ38_next_2 7 rfl rfl)
theorem dJ38_next_54 : decode cJ38_next 54 = .ok (.putfield 25, 3) := dk_181 0 25 (dk_at dksJ38_next_2 8 rfl rfl)
theorem dJ38_next_57 : decode cJ38_next 57 = .ok (.aload_n 2, 1) := dk_44 (dk_at dksJ38_next_2 11 rfl rfl)
theorem dJ38_next_58 : decode cJ38_next 58 = .ok (.aload_n 0, 1) := dk_42 (dk_at dksJ38_next_2 12 rfl rfl)
theorem dJ38_next_59 : decode cJ38_next 59 = .ok (.iload_n 1, 1) := dk_27 (dk_at dksJ38_next_2 13 rfl rfl)
theorem dJ38_next_60 : decode cJ38_next 60 = .ok (.dup_x1, 1) := dk_90 (dk_at dksJ38_next_2 14 rfl rfl)
theorem dJ38_next_61 : decode cJ38_next 61 = .ok (.putfield 13, 3) := dk_181 0 13 (dk_at dksJ38_next_2 15 rfl rfl)
theorem dJ38_next_64 : decode cJ38_next 64 = .ok (.aaload, 1) := dk_50 (dk_at dksJ38_next_2 18 rfl rfl)
theorem dJ38_next_65 : decode cJ38_next 65 = .ok (.areturn, 1) := dk_176 (dk_at dksJ38_next_2 19 rfl rfl)
abbrev iJ38_next : xM := (yJ38_next, cJ38_next, 3, (some (.object "java/lang/Object")), [])
theorem mJ38_next : xOkM iJ38_next := ⟨by decide +kernel, by decide, q2345, q182⟩
abbrev cJ38_checkForComodification : ByteArray := prog_56_method_6_code
def yJ38_checkForComodification : MethodName := ⟨RJ38, "checkForComodification", "()V"⟩
def dkwJ38_checkForComodification_0 : List UInt8 := [42, 180, 0, 1, 180, 0, 17, 42, 180, 0, 22, 159, 0, 11, 187, 0, 41, 89, 183, 0, 43, 191, 177]
abbrev dktJ38_checkForComodification_0 : List UInt8 := dkwJ38_checkForComodification_0 ++ []
theorem dksJ38_checkForComodification_0 : cJ38_checkForComodification.data.toList.drop 0 = dktJ38_checkForComodification_0 := by decide +kernel
theorem dJ38_checkForComodification_0 : decode cJ38_checkForComodification 0 = .ok (.aload_n 0, 1) := dk_42 (dk_at dksJ38_checkForComodification_0 0 rfl rfl)
theorem dJ38_checkForComodification_1 : decode cJ38_checkForComodification 1 = .ok (.getfield 1, 3) := dk_180 0 1 (dk_at dksJ38_checkForComodification_0 1 rfl rfl)
theorem dJ38_checkForComodification_4 : decode cJ38_checkForComodification 4 = .ok (.getfield 17, 3) := dk_180 0 17 (dk_at dksJ38_checkForComodification_0 4 rfl rfl)
theorem dJ38_checkForComodification_7 : decode cJ38_checkForComodification 7 = .ok (.aload_n 0, 1) := dk_42 (dk_at dksJ38_checkForComodification_0 7 rfl rfl)
theorem dJ38_checkForComodification_8 : decode cJ38_checkForComodification 8 = .ok (.getfield 22, 3) := dk_180 0 22 (dk_at dksJ38_checkForComodification_0 8 rfl rfl)
theorem dJ38_checkForComodification_11 : decode cJ38_checkForComodification 11 = .ok (.if_icmp .eq 11, 3) := dk_159 0 11 (dk_at dksJ38_checkForComodification_0 11 rfl rfl)
theorem dJ38_checkForComodification_14 : decode cJ38_checkForComodification 14 = .ok (.new 41, 3) := dk_187 0 41 (dk_at dksJ38_checkForComodification_0 14 rfl rfl)
theorem dJ38_checkForComodification_17 : decode cJ38_checkForComodification 17 = .ok (.dup, 1) := dk_89 (dk_at dksJ38_checkForComodification_0 17 rfl rfl)
theorem dJ38_checkForComodification_18 : decode cJ38_checkForComodification 18 = .ok (.invokespecial 43, 3) := dk_183 0 43 (dk_at dksJ38_checkForComodification_0 18 rfl rfl)
theorem dJ38_checkForComodification_21 : decode cJ38_checkForComodification 21 = .ok (.athrow, 1) := dk_191 (dk_at dksJ38_checkForComodification_0 21 rfl rfl)
theorem dJ38_checkForComodification_22 : decode cJ38_checkForComodification 22 = .ok (.return_, 1) := dk_177 (dk_at dksJ38_checkForComodification_0 22 rfl rfl)
abbrev iJ38_checkForComodification : xM := (yJ38_checkForComodification, cJ38_checkForComodification, 1, none, [])
theorem mJ38_checkForComodification : xOkM iJ38_checkForComodification := ⟨by decide +kernel, by decide, q2349, q182⟩
abbrev cJ3_init : ByteArray := prog_51_method_1_code
def yJ3_init : MethodName := ⟨RJ3, "<init>", "()V"⟩
theorem dJ3_init_0 : decode cJ3_init 0 = .ok (.aload_n 0, 1) := by decide +kernel
theorem dJ3_init_1 : decode cJ3_init 1 = .ok (.invokespecial 1, 3) := by decide +kernel
theorem dJ3_init_4 : decode cJ3_init 4 = .ok (.return_, 1) := by decide +kernel
abbrev iJ3_init : xM := (yJ3_init, cJ3_init, 1, none, [])
theorem mJ3_init : xOkM iJ3_init := ⟨by decide +kernel, by decide, q257, q136⟩
abbrev cJ4_init : ByteArray := prog_60_method_7_code
def yJ4_init : MethodName := ⟨RJ4, "<init>", "()V"⟩
def dkwJ4_init_0 : List UInt8 := [42, 183, 0, 43, 42, 18, 92, 181, 0, 81, 177]
abbrev dktJ4_init_0 : List UInt8 := dkwJ4_init_0 ++ []
theorem dksJ4_init_0 : cJ4_init.data.toList.drop 0 = dktJ4_init_0 := by decide +kernel
theorem dJ4_init_0 : decode cJ4_init 0 = .ok (.aload_n 0, 1) := dk_42 (dk_at dksJ4_init_0 0 rfl rfl)
theorem dJ4_init_1 : decode cJ4_init 1 = .ok (.invokespecial 43, 3) := dk_183 0 43 (dk_at dksJ4_init_0 1 rfl rfl)
theorem dJ4_init_4 : decode cJ4_init 4 = .ok (.aload_n 0, 1) := dk_42 (dk_at dksJ4_init_0 4 rfl rfl)
theorem dJ4_init_5 : decode cJ4_init 5 = .ok (.ldc 92, 2) := dk_18 92 (dk_at dksJ4_init_0 5 rfl rfl)
theorem dJ4_init_7 : decode cJ4_init 7 = .ok (.putfield 81, 3) := dk_181 0 81 (dk_at dksJ4_init_0 7 rfl rfl)
theorem dJ4_init_10 : decode cJ4_init 10 = .ok (.return_, 1) := dk_177 (dk_at dksJ4_init_0 10 rfl rfl)
abbrev iJ4_init : xM := (yJ4_init, cJ4_init, 1, none, [])
theorem mJ4_init : xOkM iJ4_init := ⟨by decide +kernel, by decide, q254, q137⟩
abbrev cJ4_init_2 : ByteArray := prog_60_method_5_code
def yJ4_init_2 : MethodName := ⟨RJ4, "<init>", "(IF)V"⟩
def dkwJ4_init_2_4 : List UInt8 := [181, 0, 88, 177]
abbrev dktJ4_init_2_4 : List UInt8 := dkwJ4_init_2_4 ++ []
def dkwJ4_init_2_3 : List UInt8 := [182, 0, 56, 36, 182, 0, 78, 182, 0, 63, 183, 0, 67, 191, 42, 36, 181, 0, 81, 42, 27, 184, 0, 85]
abbrev dktJ4_init_2_3 : List UInt8 := dkwJ4_init_2_3 ++ dktJ4_init_2_4
def dkwJ4_init_2_2 : List UInt8 := [158, 0, 10, 36, 184, 0, 70, 153, 0, 30, 187, 0, 49, 89, 187, 0, 51, 89, 183, 0, 53, 18, 76]
abbrev dktJ4_init_2_2 : List UInt8 := dkwJ4_init_2_2 ++ dktJ4_init_2_3
def dkwJ4_init_2_1 : List UInt8 := [27, 182, 0, 60, 182, 0, 63, 183, 0, 67, 191, 27, 18, 42, 164, 0, 6, 18, 42, 60, 36, 11, 150]
abbrev dktJ4_init_2_1 : List UInt8 := dkwJ4_init_2_1 ++ dktJ4_init_2_2
def dkwJ4_init_2_0 : List UInt8 := [42, 183, 0, 43, 27, 156, 0, 30, 187, 0, 49, 89, 187, 0, 51, 89, 183, 0, 53, 18, 54, 182, 0, 56]
abbrev dktJ4_init_2_0 : List UInt8 := dkwJ4_init_2_0 ++ dktJ4_init_2_1
theorem dksJ4_init_2_0 : cJ4_init_2.data.toList.drop 0 = dktJ4_init_2_0 := by decide +kernel
theorem dksJ4_init_2_1 : cJ4_init_2.data.toList.drop 24 = dktJ4_init_2_1 := dk_seg dksJ4_init_2_0 24 rfl rfl
theorem dksJ4_init_2_2 : cJ4_init_2.data.toList.drop 47 = dktJ4_init_2_2 := dk_seg dksJ4_init_2_1 23 rfl rfl
theorem dksJ4_init_2_3 : cJ4_init_2.data.toList.drop 70 = dktJ4_init_2_3 := dk_seg dksJ4_init_2_2 23 rfl rfl
theorem dksJ4_init_2_4 : cJ4_init_2.data.toList.drop 94 = dktJ4_init_2_4 := dk_seg dksJ4_init_2_3 24 rfl rfl
theorem dJ4_init_2_0 : decode cJ4_init_2 0 = .ok (.aload_n 0, 1) := dk_42 (dk_at dksJ4_init_2_0 0 rfl rfl)
theorem dJ4_init_2_1 : decode cJ4_init_2 1 = .ok (.invokespecial 43, 3) := dk_183 0 43 (dk_at dksJ4_init_2_0 1 rfl rfl)
theorem dJ4_init_2_4 : decode cJ4_init_2 4 = .ok (.iload_n 1, 1) := dk_27 (dk_at dksJ4_init_2_0 4 rfl rfl)
theorem dJ4_init_2_5 : decode cJ4_init_2 5 = .ok (.ifCond .ge 30, 3) := dk_156 0 30 (dk_at dksJ4_init_2_0 5 rfl rfl)
theorem dJ4_init_2_8 : decode cJ4_init_2 8 = .ok (.new 49, 3) := dk_187 0 49 (dk_at dksJ4_init_2_0 8 rfl rfl)
theorem dJ4_init_2_11 : decode cJ4_init_2 11 = .ok (.dup, 1) := dk_89 (dk_at dksJ4_init_2_0 11 rfl rfl)
theorem dJ4_init_2_12 : decode cJ4_init_2 12 = .ok (.new 51, 3) := dk_187 0 51 (dk_at dksJ4_init_2_0 12 rfl rfl)
theorem dJ4_init_2_15 : decode cJ4_init_2 15 = .ok (.dup, 1) := dk_89 (dk_at dksJ4_init_2_0 15 rfl rfl)
theorem dJ4_init_2_16 : decode cJ4_init_2 16 = .ok (.invokespecial 53, 3) := dk_183 0 53 (dk_at dksJ4_init_2_0 16 rfl rfl)
theorem dJ4_init_2_19 : decode cJ4_init_2 19 = .ok (.ldc 54, 2) := dk_18 54 (dk_at dksJ4_init_2_0 19 rfl rfl)
theorem dJ4_init_2_21 : decode cJ4_init_2 21 = .ok (.invokevirtual 56, 3) := dk_182 0 56 (dk_at dksJ4_init_2_0 21 rfl rfl)
theorem dJ4_init_2_24 : decode cJ4_init_2 24 = .ok (.iload_n 1, 1) := dk_27 (dk_at dksJ4_init_2_1 0 rfl rfl)
theorem dJ4_init_2_25 : decode cJ4_init_2 25 = .ok (.invokevirtual 60, 3) := dk_182 0 60 (dk_at dksJ4_init_2_1 1 rfl rfl)
theorem dJ4_init_2_28 : decode cJ4_init_2 28 = .ok (.invokevirtual 63, 3) := dk_182 0 63 (dk_at dksJ4_init_2_1 4 rfl rfl)
theorem dJ4_init_2_31 : decode cJ4_init_2 31 = .ok (.invokespecial 67, 3) := dk_183 0 67 (dk_at dksJ4_init_2_1 7 rfl rfl)
theorem dJ4_init_2_34 : decode cJ4_init_2 34 = .ok (.athrow, 1) := dk_191 (dk_at dksJ4_init_2_1 10 rfl rfl)
theorem dJ4_init_2_35 : decode cJ4_init_2 35 = .ok (.iload_n 1, 1) := dk_27 (dk_at dksJ4_init_2_1 11 rfl rfl)
theorem dJ4_init_2_36 : decode cJ4_init_2 36 = .ok (.ldc 42, 2) := dk_18 42 (dk_at dksJ4_init_2_1 12 rfl rfl)
theorem dJ4_init_2_38 : decode cJ4_init_2 38 = .ok (.if_icmp .le 6, 3) := dk_164 0 6 (dk_at dksJ4_init_2_1 14 rfl rfl)
theorem dJ4_init_2_41 : decode cJ4_init_2 41 = .ok (.ldc 42, 2) := dk_18 42 (dk_at dksJ4_init_2_1 17 rfl rfl)
theorem dJ4_init_2_43 : decode cJ4_init_2 43 = .ok (.istore_n 1, 1) := dk_60 (dk_at dksJ4_init_2_1 19 rfl rfl)
theorem dJ4_init_2_44 : decode cJ4_init_2 44 = .ok (.fload_n 2, 1) := dk_36 (dk_at dksJ4_init_2_1 20 rfl rfl)
theorem dJ4_init_2_45 : decode cJ4_init_2 45 = .ok (.fconst 0, 1) := dk_11 (dk_at dksJ4_init_2_1 21 rfl rfl)
theorem dJ4_init_2_46 : decode cJ4_init_2 46 = .ok (.fcmp .g, 1) := dk_150 (dk_at dksJ4_init_2_1 22 rfl rfl)
theorem dJ4_init_2_47 : decode cJ4_init_2 47 = .ok (.ifCond .le 10, 3) := dk_158 0 10 (dk_at dksJ4_init_2_2 0 rfl rfl)
theorem dJ4_init_2_50 : decode cJ4_init_2 50 = .ok (.fload_n 2, 1) := dk_36 (dk_at dksJ4_init_2_2 3 rfl rfl)
theorem dJ4_init_2_51 : decode cJ4_init_2 51 = .ok (.invokestatic 70, 3) := dk_184 0 70 (dk_at dksJ4_init_2_2 4 rfl rfl)
theorem dJ4_init_2_54 : decode cJ4_init_2 54 = .ok (.ifCond .eq 30, 3) := dk_153 0 30 (dk_at dksJ4_init_2_2 7 rfl rfl)
theorem dJ4_init_2_57 : decode cJ4_init_2 57 = .ok (.new 49, 3) := dk_187 0 49 (dk_at dksJ4_init_2_2 10 rfl rfl)
theorem dJ4_init_2_60 : decode cJ4_init_2 60 = .ok (.dup, 1) := dk_89 (dk_at dksJ4_init_2_2 13 rfl rfl)
theorem dJ4_init_2_61 : decode cJ4_init_2 61 = .ok (.new 51, 3) := dk_187 0 51 (dk_at dksJ4_init_2_2 14 rfl rfl)
theorem dJ4_init_2_64 : decode cJ4_init_2 64 = .ok (.dup, 1) := dk_89 (dk_at dksJ4_init_2_2 17 rfl rfl)
theorem dJ4_init_2_65 : decode cJ4_init_2 65 = .ok (.invokespecial 53, 3) := dk_183 0 53 (dk_at dksJ4_init_2_2 18 rfl rfl)
theorem dJ4_init_2_68 : decode cJ4_init_2 68 = .ok (.ldc 76, 2) := dk_18 76 (dk_at dksJ4_init_2_2 21 rfl rfl)
theorem dJ4_init_2_70 : decode cJ4_init_2 70 = .ok (.invokevirtual 56, 3) := dk_182 0 56 (dk_at dksJ4_init_2_3 0 rfl rfl)
theorem dJ4_init_2_73 : decode cJ4_init_2 73 = .ok (.fload_n 2, 1) := dk_36 (dk_at dksJ4_init_2_3 3 rfl rfl)
theorem dJ4_init_2_74 : decode cJ4_init_2 74 = .ok (.invokevirtual 78, 3) := dk_182 0 78 (dk_at dksJ4_init_2_3 4 rfl rfl)
theorem dJ4_init_2_77 : decode cJ4_init_2 77 = .ok (.invokevirtual 63, 3) := dk_182 0 63 (dk_at dksJ4_init_2_3 7 rfl rfl)
theorem dJ4_init_2_80 : decode cJ4_init_2 80 = .ok (.invokespecial 67, 3) := dk_183 0 67 (dk_at dksJ4_init_2_3 10 rfl rfl)
theorem dJ4_init_2_83 : decode cJ4_init_2 83 = .ok (.athrow, 1) := dk_191 (dk_at dksJ4_init_2_3 13 rfl rfl)
theorem dJ4_init_2_84 : decode cJ4_init_2 84 = .ok (.aload_n 0, 1) := dk_42 (dk_at dksJ4_init_2_3 14 rfl rfl)
theorem dJ4_init_2_85 : decode cJ4_init_2 85 = .ok (.fload_n 2, 1) := dk_36 (dk_at dksJ4_init_2_3 15 rfl rfl)
theorem dJ4_init_2_86 : decode cJ4_init_2 86 = .ok (.putfield 81, 3) := dk_181 0 81 (dk_at dksJ4_init_2_3 16 rfl rfl)
theorem dJ4_init_2_89 : decode cJ4_init_2 89 = .ok (.aload_n 0, 1) := dk_42 (dk_at dksJ4_init_2_3 19 rfl rfl)
theorem dJ4_init_2_90 : decode cJ4_init_2 90 = .ok (.iload_n 1, 1) := dk_27 (dk_at dksJ4_init_2_3 20 rfl rfl)
theorem dJ4_init_2_91 : decode cJ4_init_2 91 = .ok (.invokestatic 85, 3) := dk_184 0 85 (dk_at dksJ4_init_2_3 21 rfl rfl)
theorem dJ4_init_2_94 : decode cJ4_init_2 94 = .ok (.putfield 88, 3) := dk_181 0 88 (dk_at dksJ4_init_2_4 0 rfl rfl)
theorem dJ4_init_2_97 : decode cJ4_init_2 97 = .ok (.return_, 1) := dk_177 (dk_at dksJ4_init_2_4 3 rfl rfl)
abbrev iJ4_init_2 : xM := (yJ4_init_2, cJ4_init_2, 3, none, [])
theorem mJ4_init_2 : xOkM iJ4_init_2 := ⟨by decide +kernel, by decide, q329, q137⟩
abbrev cJ4_tableSizeFor : ByteArray := prog_60_method_4_code
def yJ4_tableSizeFor : MethodName := ⟨RJ4, "tableSizeFor", "(I)I"⟩
def dkwJ4_tableSizeFor_1 : List UInt8 := [18, 42, 167, 0, 6, 27, 4, 96, 172]
abbrev dktJ4_tableSizeFor_1 : List UInt8 := dkwJ4_tableSizeFor_1 ++ []
def dkwJ4_tableSizeFor_0 : List UInt8 := [2, 26, 4, 100, 184, 0, 34, 124, 60, 27, 156, 0, 7, 4, 167, 0, 17, 27, 18, 42, 161, 0, 8]
abbrev dktJ4_tableSizeFor_0 : List UInt8 := dkwJ4_tableSizeFor_0 ++ dktJ4_tableSizeFor_1
theorem dksJ4_tableSizeFor_0 : cJ4_tableSizeFor.data.toList.drop 0 = dktJ4_tableSizeFor_0 := by decide +kernel
theorem dksJ4_tableSizeFor_1 : cJ4_tableSizeFor.data.toList.drop 23 = dktJ4_tableSizeFor_1 := dk_seg dksJ4_tableSizeFor_0 23 rfl rfl
theorem dJ4_tableSizeFor_0 : decode cJ4_tableSizeFor 0 = .ok (.iconst (-1), 1) := dk_2 (dk_at dksJ4_tableSizeFor_0 0 rfl rfl)
theorem dJ4_tableSizeFor_1 : decode cJ4_tableSizeFor 1 = .ok (.iload_n 0, 1) := dk_26 (dk_at dksJ4_tableSizeFor_0 1 rfl rfl)
theorem dJ4_tableSizeFor_2 : decode cJ4_tableSizeFor 2 = .ok (.iconst 1, 1) := dk_4 (dk_at dksJ4_tableSizeFor_0 2 rfl rfl)
theorem dJ4_tableSizeFor_3 : decode cJ4_tableSizeFor 3 = .ok (.isub, 1) := dk_100 (dk_at dksJ4_tableSizeFor_0 3 rfl rfl)
theorem dJ4_tableSizeFor_4 : decode cJ4_tableSizeFor 4 = .ok (.invokestatic 34, 3) := dk_184 0 34 (dk_at dksJ4_tableSizeFor_0 4 rfl rfl)
theorem dJ4_tableSizeFor_7 : decode cJ4_tableSizeFor 7 = .ok (.iushr, 1) := dk_124 (dk_at dksJ4_tableSizeFor_0 7 rfl rfl)
theorem dJ4_tableSizeFor_8 : decode cJ4_tableSizeFor 8 = .ok (.istore_n 1, 1) := dk_60 (dk_at dksJ4_tableSizeFor_0 8 rfl rfl)
theorem dJ4_tableSizeFor_9 : decode cJ4_tableSizeFor 9 = .ok (.iload_n 1, 1) := dk_27 (dk_at dksJ4_tableSizeFor_0 9 rfl rfl)
theorem dJ4_tableSizeFor_10 : decode cJ4_tableSizeFor 10 = .ok (.ifCond .ge 7, 3) := dk_156 0 7 (dk_at dksJ4_tableSizeFor_0 10 rfl rfl)
theorem dJ4_tableSizeFor_13 : decode cJ4_tableSizeFor 13 = .ok (.iconst 1, 1) := dk_4 (dk_at dksJ4_tableSizeFor_0 13 rfl rfl)
theorem dJ4_tableSizeFor_14 : decode cJ4_tableSizeFor 14 = .ok (.goto 17, 3) := dk_167 0 17 (dk_at dksJ4_tableSizeFor_0 14 rfl rfl)
theorem dJ4_tableSizeFor_17 : decode cJ4_tableSizeFor 17 = .ok (.iload_n 1, 1) := dk_27 (dk_at dksJ4_tableSizeFor_0 17 rfl rfl)
theorem dJ4_tableSizeFor_18 : decode cJ4_tableSizeFor 18 = .ok (.ldc 42, 2) := dk_18 42 (dk_at dksJ4_tableSizeFor_0 18 rfl rfl)
theorem dJ4_tableSizeFor_20 : decode cJ4_tableSizeFor 20 = .ok (.if_icmp .lt 8, 3) := dk_161 0 8 (dk_at dksJ4_tableSizeFor_0 20 rfl rfl)
theorem dJ4_tableSizeFor_23 : decode cJ4_tableSizeFor 23 = .ok (.ldc 42, 2) := dk_18 42 (dk_at dksJ4_tableSizeFor_1 0 rfl rfl)
theorem dJ4_tableSizeFor_25 : decode cJ4_tableSizeFor 25 = .ok (.goto 6, 3) := dk_167 0 6 (dk_at dksJ4_tableSizeFor_1 2 rfl rfl)
theorem dJ4_tableSizeFor_28 : decode cJ4_tableSizeFor 28 = .ok (.iload_n 1, 1) := dk_27 (dk_at dksJ4_tableSizeFor_1 5 rfl rfl)
theorem dJ4_tableSizeFor_29 : decode cJ4_tableSizeFor 29 = .ok (.iconst 1, 1) := dk_4 (dk_at dksJ4_tableSizeFor_1 6 rfl rfl)
theorem dJ4_tableSizeFor_30 : decode cJ4_tableSizeFor 30 = .ok (.iadd, 1) := dk_96 (dk_at dksJ4_tableSizeFor_1 7 rfl rfl)
theorem dJ4_tableSizeFor_31 : decode cJ4_tableSizeFor 31 = .ok (.ireturn, 1) := dk_172 (dk_at dksJ4_tableSizeFor_1 8 rfl rfl)
abbrev iJ4_tableSizeFor : xM := (yJ4_tableSizeFor, cJ4_tableSizeFor, 2, (some .int), [])
theorem mJ4_tableSizeFor : xOkM iJ4_tableSizeFor := ⟨by decide +kernel, by decide, q1149, q137⟩
abbrev cJ4_put : ByteArray := prog_60_method_15_code
def yJ4_put : MethodName := ⟨RJ4, "put", "(Ljava/lang/Object;Ljava/lang/Object;)Ljava/lang/Object;"⟩
def dkwJ4_put_0 : List UInt8 := [42, 43, 184, 0, 149, 43, 44, 3, 4, 182, 0, 152, 176]
abbrev dktJ4_put_0 : List UInt8 := dkwJ4_put_0 ++ []
theorem dksJ4_put_0 : cJ4_put.data.toList.drop 0 = dktJ4_put_0 := by decide +kernel
theorem dJ4_put_0 : decode cJ4_put 0 = .ok (.aload_n 0, 1) := dk_42 (dk_at dksJ4_put_0 0 rfl rfl)
theorem dJ4_put_1 : decode cJ4_put 1 = .ok (.aload_n 1, 1) := dk_43 (dk_at dksJ4_put_0 1 rfl rfl)
theorem dJ4_put_2 : decode cJ4_put 2 = .ok (.invokestatic 149, 3) := dk_184 0 149 (dk_at dksJ4_put_0 2 rfl rfl)
theorem dJ4_put_5 : decode cJ4_put 5 = .ok (.aload_n 1, 1) := dk_43 (dk_at dksJ4_put_0 5 rfl rfl)
theorem dJ4_put_6 : decode cJ4_put 6 = .ok (.aload_n 2, 1) := dk_44 (dk_at dksJ4_put_0 6 rfl rfl)
theorem dJ4_put_7 : decode cJ4_put 7 = .ok (.iconst 0, 1) := dk_3 (dk_at dksJ4_put_0 7 rfl rfl)
theorem dJ4_put_8 : decode cJ4_put 8 = .ok (.iconst 1, 1) := dk_4 (dk_at dksJ4_put_0 8 rfl rfl)
theorem dJ4_put_9 : decode cJ4_put 9 = .ok (.invokevirtual 152, 3) := dk_182 0 152 (dk_at dksJ4_put_0 9 rfl rfl)
theorem dJ4_put_12 : decode cJ4_put 12 = .ok (.areturn, 1) := dk_176 (dk_at dksJ4_put_0 12 rfl rfl)
abbrev iJ4_put : xM := (yJ4_put, cJ4_put, 3, (some (.object "java/lang/Object")), [])
theorem mJ4_put : xOkM iJ4_put := ⟨by decide +kernel, by decide, q1357, q137⟩
abbrev cJ4_hash : ByteArray := prog_60_method_1_code
def yJ4_hash : MethodName := ⟨RJ4, "hash", "(Ljava/lang/Object;)I"⟩
def dkwJ4_hash_0 : List UInt8 := [42, 199, 0, 7, 3, 167, 0, 14, 42, 182, 0, 1, 89, 60, 27, 16, 16, 124, 130, 172]
abbrev dktJ4_hash_0 : List UInt8 := dkwJ4_hash_0 ++ []
theorem dksJ4_hash_0 : cJ4_hash.data.toList.drop 0 = dktJ4_hash_0 := by decide +kernel
theorem dJ4_hash_0 : decode cJ4_hash 0 = .ok (.aload_n 0, 1) := dk_42 (dk_at dksJ4_hash_0 0 rfl rfl)
theorem dJ4_hash_1 : decode cJ4_hash 1 = .ok (.ifnonnull 7, 3) := dk_199 0 7 (dk_at dksJ4_hash_0 1 rfl rfl)
theorem dJ4_hash_4 : decode cJ4_hash 4 = .ok (.iconst 0, 1) := dk_3 (dk_at dksJ4_hash_0 4 rfl rfl)
theorem dJ4_hash_5 : decode cJ4_hash 5 = .ok (.goto 14, 3) := dk_167 0 14 (dk_at dksJ4_hash_0 5 rfl rfl)
theorem dJ4_hash_8 : decode cJ4_hash 8 = .ok (.aload_n 0, 1) := dk_42 (dk_at dksJ4_hash_0 8 rfl rfl)
theorem dJ4_hash_9 : decode cJ4_hash 9 = .ok (.invokevirtual 1, 3) := dk_182 0 1 (dk_at dksJ4_hash_0 9 rfl rfl)
theorem dJ4_hash_12 : decode cJ4_hash 12 = .ok (.dup, 1) := dk_89 (dk_at dksJ4_hash_0 12 rfl rfl)
theorem dJ4_hash_13 : decode cJ4_hash 13 = .ok (.istore_n 1, 1) := dk_60 (dk_at dksJ4_hash_0 13 rfl rfl)
theorem dJ4_hash_14 : decode cJ4_hash 14 = .ok (.iload_n 1, 1) := dk_27 (dk_at dksJ4_hash_0 14 rfl rfl)
theorem dJ4_hash_15 : decode cJ4_hash 15 = .ok (.bipush 16, 2) := dk_16 16 (dk_at dksJ4_hash_0 15 rfl rfl)
theorem dJ4_hash_17 : decode cJ4_hash 17 = .ok (.iushr, 1) := dk_124 (dk_at dksJ4_hash_0 17 rfl rfl)
theorem dJ4_hash_18 : decode cJ4_hash 18 = .ok (.ixor, 1) := dk_130 (dk_at dksJ4_hash_0 18 rfl rfl)
theorem dJ4_hash_19 : decode cJ4_hash 19 = .ok (.ireturn, 1) := dk_172 (dk_at dksJ4_hash_0 19 rfl rfl)
abbrev iJ4_hash : xM := (yJ4_hash, cJ4_hash, 2, (some .int), [])
theorem mJ4_hash : xOkM iJ4_hash := ⟨by decide +kernel, by decide, q1360, q137⟩
abbrev cJ4_putVal : ByteArray := prog_60_method_16_code
def yJ4_putVal : MethodName := ⟨RJ4, "putVal", "(ILjava/lang/Object;Ljava/lang/Object;ZZ)Ljava/lang/Object;"⟩
def dkwJ4_putVal_12 : List UInt8 := [181, 0, 156, 42, 180, 0, 88, 164, 0, 8, 42, 182, 0, 117, 87, 42, 21, 5, 182, 0, 205, 1, 176]
abbrev dktJ4_putVal_12 : List UInt8 := dkwJ4_putVal_12 ++ []
def dkwJ4_putVal_11 : List UInt8 := [182, 0, 198, 25, 12, 176, 42, 89, 180, 0, 202, 4, 96, 181, 0, 202, 42, 89, 180, 0, 156, 4, 96, 90]
abbrev dktJ4_putVal_11 : List UInt8 := dkwJ4_putVal_11 ++ dktJ4_putVal_12
def dkwJ4_putVal_10 : List UInt8 := [180, 0, 162, 58, 12, 21, 4, 153, 0, 8, 25, 12, 199, 0, 9, 25, 10, 45, 181, 0, 162, 42, 25, 10]
abbrev dktJ4_putVal_10 : List UInt8 := dkwJ4_putVal_10 ++ dktJ4_putVal_11
def dkwJ4_putVal_9 : List UInt8 := [153, 0, 6, 167, 0, 13, 25, 10, 58, 7, 132, 12, 1, 167, 255, 171, 25, 10, 198, 0, 35, 25, 10]
abbrev dktJ4_putVal_9 : List UInt8 := dkwJ4_putVal_9 ++ dktJ4_putVal_10
def dkwJ4_putVal_8 : List UInt8 := [25, 10, 180, 0, 170, 89, 58, 11, 44, 165, 0, 29, 44, 198, 0, 15, 44, 25, 11, 182, 0, 173]
abbrev dktJ4_putVal_8 : List UInt8 := dkwJ4_putVal_8 ++ dktJ4_putVal_9
def dkwJ4_putVal_7 : List UInt8 := [16, 7, 161, 0, 60, 42, 25, 6, 27, 182, 0, 194, 167, 0, 50, 25, 10, 180, 0, 168, 27, 160, 0, 31]
abbrev dktJ4_putVal_7 : List UInt8 := dkwJ4_putVal_7 ++ dktJ4_putVal_8
def dkwJ4_putVal_6 : List UInt8 := [180, 0, 177, 89, 58, 10, 199, 0, 33, 25, 7, 42, 27, 44, 45, 1, 182, 0, 186, 181, 0, 177, 21, 12]
abbrev dktJ4_putVal_6 : List UInt8 := dkwJ4_putVal_6 ++ dktJ4_putVal_7
def dkwJ4_putVal_5 : List UInt8 := [192, 0, 180, 42, 25, 6, 27, 44, 45, 182, 0, 190, 58, 10, 167, 0, 94, 3, 54, 12, 25, 7]
abbrev dktJ4_putVal_5 : List UInt8 := dkwJ4_putVal_5 ++ dktJ4_putVal_6
def dkwJ4_putVal_4 : List UInt8 := [182, 0, 173, 153, 0, 10, 25, 7, 58, 10, 167, 0, 121, 25, 7, 193, 0, 180, 153, 0, 22, 25, 7]
abbrev dktJ4_putVal_4 : List UInt8 := dkwJ4_putVal_4 ++ dktJ4_putVal_5
def dkwJ4_putVal_3 : List UInt8 := [160, 0, 35, 25, 7, 180, 0, 170, 89, 58, 11, 44, 165, 0, 16, 44, 198, 0, 19, 44, 25, 11]
abbrev dktJ4_putVal_3 : List UInt8 := dkwJ4_putVal_3 ++ dktJ4_putVal_4
def dkwJ4_putVal_2 : List UInt8 := [25, 6, 21, 9, 42, 27, 44, 45, 1, 182, 0, 186, 83, 167, 0, 199, 25, 7, 180, 0, 168, 27]
abbrev dktJ4_putVal_2 : List UInt8 := dkwJ4_putVal_2 ++ dktJ4_putVal_3
def dkwJ4_putVal_1 : List UInt8 := [58, 6, 190, 54, 8, 25, 6, 21, 8, 4, 100, 27, 126, 89, 54, 9, 50, 89, 58, 7, 199, 0, 19]
abbrev dktJ4_putVal_1 : List UInt8 := dkwJ4_putVal_1 ++ dktJ4_putVal_2
def dkwJ4_putVal_0 : List UInt8 := [42, 180, 0, 105, 89, 58, 6, 198, 0, 12, 25, 6, 190, 89, 54, 8, 154, 0, 13, 42, 182, 0, 117, 89]
abbrev dktJ4_putVal_0 : List UInt8 := dkwJ4_putVal_0 ++ dktJ4_putVal_1
theorem dksJ4_putVal_0 : cJ4_putVal.data.toList.drop 0 = dktJ4_putVal_0 := by decide +kernel
theorem dksJ4_putVal_1 : cJ4_putVal.data.toList.drop 24 = dktJ4_putVal_1 := dk_seg dksJ4_putVal_0 24 rfl rfl
theorem dksJ4_putVal_2 : cJ4_putVal.data.toList.drop 47 = dktJ4_putVal_2 := dk_seg dksJ4_putVal_1 23 rfl rfl
theorem dksJ4_putVal_3 : cJ4_putVal.data.toList.drop 69 = dktJ4_putVal_3 := dk_seg dksJ4_putVal_2 22 rfl rfl
theorem dksJ4_putVal_4 : cJ4_putVal.data.toList.drop 91 = dktJ4_putVal_4 := dk_seg dksJ4_putVal_3 22 rfl rfl
theorem dksJ4_putVal_5 : cJ4_putVal.data.toList.drop 114 = dktJ4_putVal_5 := dk_seg dksJ4_putVal_4 23 rfl rfl
theorem dksJ4_putVal_6 : cJ4_putVal.data.toList.drop 136 = dktJ4_putVal_6 := dk_seg dksJ4_putVal_5 22 rfl rfl
theorem dksJ4_putVal_7 : cJ4_putVal.data.toList.drop 160 = dktJ4_putVal_7 := dk_seg dksJ4_putVal_6 24 rfl rfl
theorem dksJ4_putVal_8 : cJ4_putVal.data.toList.drop 184 = dktJ4_putVal_8 := dk_seg dksJ4_putVal_7 24 rfl rfl
theorem dksJ4_putVal_9 : cJ4_putVal.data.toList.drop 206 = dktJ4_putVal_9 := dk_seg dksJ4_putVal_8 22 rfl rfl
theorem dksJ4_putVal_10 : cJ4_putVal.data.toList.drop 229 = dktJ4_putVal_10 := dk_seg dksJ4_putVal_9 23 rfl rfl
theorem dksJ4_putVal_11 : cJ4_putVal.data.toList.drop 253 = dktJ4_putVal_11 := dk_seg dksJ4_putVal_10 24 rfl rfl
theorem dksJ4_putVal_12 : cJ4_putVal.data.toList.drop 277 = dktJ4_putVal_12 := dk_seg dksJ4_putVal_11 24 rfl rfl
theorem dJ4_putVal_0 : decode cJ4_putVal 0 = .ok (.aload_n 0, 1) := dk_42 (dk_at dksJ4_putVal_0 0 rfl rfl)
theorem dJ4_putVal_1 : decode cJ4_putVal 1 = .ok (.getfield 105, 3) := dk_180 0 105 (dk_at dksJ4_putVal_0 1 rfl rfl)
theorem dJ4_putVal_4 : decode cJ4_putVal 4 = .ok (.dup, 1) := dk_89 (dk_at dksJ4_putVal_0 4 rfl rfl)
theorem dJ4_putVal_5 : decode cJ4_putVal 5 = .ok (.astore 6, 2) := dk_58 6 (dk_at dksJ4_putVal_0 5 rfl rfl)
theorem dJ4_putVal_7 : decode cJ4_putVal 7 = .ok (.ifnull 12, 3) := dk_198 0 12 (dk_at dksJ4_putVal_0 7 rfl rfl)
theorem dJ4_putVal_10 : decode cJ4_putVal 10 = .ok (.aload 6, 2) := dk_25 6 (dk_at dksJ4_putVal_0 10 rfl rfl)
theorem dJ4_putVal_12 : decode cJ4_putVal 12 = .ok (.arraylength, 1) := dk_190 (dk_at dksJ4_putVal_0 12 rfl rfl)
theorem dJ4_putVal_13 : decode cJ4_putVal 13 = .ok (.dup, 1) := dk_89 (dk_at dksJ4_putVal_0 13 rfl rfl)
theorem dJ4_putVal_14 : decode cJ4_putVal 14 = .ok (.istore 8, 2) := dk_54 8 (dk_at dksJ4_putVal_0 14 rfl rfl)
theorem dJ4_putVal_16 : decode cJ4_putVal 16 = .ok (.ifCond .ne 13, 3) := dk_154 0 13 (dk_at dksJ4_putVal_0 16 rfl rfl)
theorem dJ4_putVal_19 : decode cJ4_putVal 19 = .ok (.aload_n 0, 1) := dk_42 (dk_at dksJ4_putVal_0 19 rfl rfl)
theorem dJ4_putVal_20 : decode cJ4_putVal 20 = .ok (.invokevirtual 117, 3) := dk_182 0 117 (dk_at dksJ4_putVal_0 20 rfl rfl)
theorem dJ4_putVal_23 : decode cJ4_putVal 23 = .ok (.dup, 1) := dk_89 (dk_at dksJ4_putVal_0 23 rfl rfl)
theorem dJ4_putVal_24 : decode cJ4_putVal 24 = .ok (.astore 6, 2) := dk_58 6 (dk_at dksJ4_putVal_1 0 rfl rfl)
theorem dJ4_putVal_26 : decode cJ4_putVal 26 = .ok (.arraylength, 1) := dk_190 (dk_at dksJ4_putVal_1 2 rfl rfl)
theorem dJ4_putVal_27 : decode cJ4_putVal 27 = .ok (.istore 8, 2) := dk_54 8 (dk_at dksJ4_putVal_1 3 rfl rfl)
theorem dJ4_putVal_29 : decode cJ4_putVal 29 = .ok (.aload 6, 2) := dk_25 6 (dk_at dksJ4_putVal_1 5 rfl rfl)
theorem dJ4_putVal_31 : decode cJ4_putVal 31 = .ok (.iload 8, 2) := dk_21 8 (dk_at dksJ4_putVal_1 7 rfl rfl)
theorem dJ4_putVal_33 : decode cJ4_putVal 33 = .ok (.iconst 1, 1) := dk_4 (dk_at dksJ4_putVal_1 9 rfl rfl)
theorem dJ4_putVal_34 : decode cJ4_putVal 34 = .ok (.isub, 1) := dk_100 (dk_at dksJ4_putVal_1 10 rfl rfl)
theorem dJ4_putVal_35 : decode cJ4_putVal 35 = .ok (.iload_n 1, 1) := dk_27 (dk_at dksJ4_putVal_1 11 rfl rfl)
theorem dJ4_putVal_36 : decode cJ4_putVal 36 = .ok (.iand, 1) := dk_126 (dk_at dksJ4_putVal_1 12 rfl rfl)
theorem dJ4_putVal_37 : decode cJ4_putVal 37 = .ok (.dup, 1) := dk_89 (dk_at dksJ4_putVal_1 13 rfl rfl)
theorem dJ4_putVal_38 : decode cJ4_putVal 38 = .ok (.istore 9, 2) := dk_54 9 (dk_at dksJ4_putVal_1 14 rfl rfl)
theorem dJ4_putVal_40 : decode cJ4_putVal 40 = .ok (.aaload, 1) := dk_50 (dk_at dksJ4_putVal_1 16 rfl rfl)
theorem dJ4_putVal_41 : decode cJ4_putVal 41 = .ok (.dup, 1) := dk_89 (dk_at dksJ4_putVal_1 17 rfl rfl)
theorem dJ4_putVal_42 : decode cJ4_putVal 42 = .ok (.astore 7, 2) := dk_58 7 (dk_at dksJ4_putVal_1 18 rfl rfl)
theorem dJ4_putVal_44 : decode cJ4_putVal 44 = .ok (.ifnonnull 19, 3) := dk_199 0 19 (dk_at dksJ4_putVal_1 20 rfl rfl)
theorem dJ4_putVal_47 : decode cJ4_putVal 47 = .ok (.aload 6, 2) := dk_25 6 (dk_at dksJ4_putVal_2 0 rfl rfl)
theorem dJ4_putVal_49 : decode cJ4_putVal 49 = .ok (.iload 9, 2) := dk_21 9 (dk_at dksJ4_putVal_2 2 rfl rfl)
theorem dJ4_putVal_51 : decode cJ4_putVal 51 = .ok (.aload_n 0, 1) := dk_42 (dk_at dksJ4_putVal_2 4 rfl rfl)
theorem dJ4_putVal_52 : decode cJ4_putVal 52 = .ok (.iload_n 1, 1) := dk_27 (dk_at dksJ4_putVal_2 5 rfl rfl)
theorem dJ4_putVal_53 : decode cJ4_putVal 53 = .ok (.aload_n 2, 1) := dk_44 (dk_at dksJ4_putVal_2 6 rfl rfl)
theorem dJ4_putVal_54 : decode cJ4_putVal 54 = .ok (.aload_n 3, 1) := dk_45 (dk_at dksJ4_putVal_2 7 rfl rfl)
theorem dJ4_putVal_55 : decode cJ4_putVal 55 = .ok (.aconst_null, 1) := dk_1 (dk_at dksJ4_putVal_2 8 rfl rfl)
theorem dJ4_putVal_56 : decode cJ4_putVal 56 = .ok (.invokevirtual 186, 3) := dk_182 0 186 (dk_at dksJ4_putVal_2 9 rfl rfl)
theorem dJ4_putVal_59 : decode cJ4_putVal 59 = .ok (.aastore, 1) := dk_83 (dk_at dksJ4_putVal_2 12 rfl rfl)
theorem dJ4_putVal_60 : decode cJ4_putVal 60 = .ok (.goto 199, 3) := dk_167 0 199 (dk_at dksJ4_putVal_2 13 rfl rfl)
theorem dJ4_putVal_63 : decode cJ4_putVal 63 = .ok (.aload 7, 2) := dk_25 7 (dk_at dksJ4_putVal_2 16 rfl rfl)
theorem dJ4_putVal_65 : decode cJ4_putVal 65 = .ok (.getfield 168, 3) := dk_180 0 168 (dk_at dksJ4_putVal_2 18 rfl rfl)
theorem dJ4_putVal_68 : decode cJ4_putVal 68 = .ok (.iload_n 1, 1) := dk_27 (dk_at dksJ4_putVal_2 21 rfl rfl)
theorem dJ4_putVal_69 : decode cJ4_putVal 69 = .ok (.if_icmp .ne 35, 3) := dk_160 0 35 (dk_at dksJ4_putVal_3 0 rfl rfl)
theorem dJ4_putVal_72 : decode cJ4_putVal 72 = .ok (.aload 7, 2) := dk_25 7 (dk_at dksJ4_putVal_3 3 rfl rfl)
theorem dJ4_putVal_74 : decode cJ4_putVal 74 = .ok (.getfield 170, 3) := dk_180 0 170 (dk_at dksJ4_putVal_3 5 rfl rfl)
theorem dJ4_putVal_77 : decode cJ4_putVal 77 = .ok (.dup, 1) := dk_89 (dk_at dksJ4_putVal_3 8 rfl rfl)
theorem dJ4_putVal_78 : decode cJ4_putVal 78 = .ok (.astore 11, 2) := dk_58 11 (dk_at dksJ4_putVal_3 9 rfl rfl)
theorem dJ4_putVal_80 : decode cJ4_putVal 80 = .ok (.aload_n 2, 1) := dk_44 (dk_at dksJ4_putVal_3 11 rfl rfl)
theorem dJ4_putVal_81 : decode cJ4_putVal 81 = .ok (.if_acmp .eq 16, 3) := dk_165 0 16 (dk_at dksJ4_putVal_3 12 rfl rfl)
theorem dJ4_putVal_84 : decode cJ4_putVal 84 = .ok (.aload_n 2, 1) := dk_44 (dk_at dksJ4_putVal_3 15 rfl rfl)
theorem dJ4_putVal_85 : decode cJ4_putVal 85 = .ok (.ifnull 19, 3) := dk_198 0 19 (dk_at dksJ4_putVal_3 16 rfl rfl)
theorem dJ4_putVal_88 : decode cJ4_putVal 88 = .ok (.aload_n 2, 1) := dk_44 (dk_at dksJ4_putVal_3 19 rfl rfl)
theorem dJ4_putVal_89 : decode cJ4_putVal 89 = .ok (.aload 11, 2) := dk_25 11 (dk_at dksJ4_putVal_3 20 rfl rfl)
theorem dJ4_putVal_91 : decode cJ4_putVal 91 = .ok (.invokevirtual 173, 3) := dk_182 0 173 (dk_at dksJ4_putVal_4 0 rfl rfl)
theorem dJ4_putVal_94 : decode cJ4_putVal 94 = .ok (.ifCond .eq 10, 3) := dk_153 0 10 (dk_at dksJ4_putVal_4 3 rfl rfl)
theorem dJ4_putVal_97 : decode cJ4_putVal 97 = .ok (.aload 7, 2) := dk_25 7 (dk_at dksJ4_putVal_4 6 rfl rfl)
theorem dJ4_putVal_99 : decode cJ4_putVal 99 = .ok (.astore 10, 2) := dk_58 10 (dk_at dksJ4_putVal_4 8 rfl rfl)
theorem dJ4_putVal_101 : decode cJ4_putVal 101 = .ok (.goto 121, 3) := dk_167 0 121 (dk_at dksJ4_putVal_4 10 rfl rfl)
theorem dJ4_putVal_104 : decode cJ4_putVal 104 = .ok (.aload 7, 2) := dk_25 7 (dk_at dksJ4_putVal_4 13 rfl rfl)
theorem dJ4_putVal_106 : decode cJ4_putVal 106 = .ok (.instanceof 180, 3) := dk_193 0 180 (dk_at dksJ4_putVal_4 15 rfl rfl)
theorem dJ4_putVal_109 : decode cJ4_putVal 109 = .ok (.ifCond .eq 22, 3) := dk_153 0 22 (dk_at dksJ4_putVal_4 18 rfl rfl)
theorem dJ4_putVal_112 : decode cJ4_putVal 112 = .ok (.aload 7, 2) := dk_25 7 (dk_at dksJ4_putVal_4 21 rfl rfl)
theorem dJ4_putVal_114 : decode cJ4_putVal 114 = .ok (.checkcast 180, 3) := dk_192 0 180 (dk_at dksJ4_putVal_5 0 rfl rfl)
theorem dJ4_putVal_117 : decode cJ4_putVal 117 = .ok (.aload_n 0, 1) := dk_42 (dk_at dksJ4_putVal_5 3 rfl rfl)
theorem dJ4_putVal_118 : decode cJ4_putVal 118 = .ok (.aload 6, 2) := dk_25 6 (dk_at dksJ4_putVal_5 4 rfl rfl)
theorem dJ4_putVal_120 : decode cJ4_putVal 120 = .ok (.iload_n 1, 1) := dk_27 (dk_at dksJ4_putVal_5 6 rfl rfl)
theorem dJ4_putVal_121 : decode cJ4_putVal 121 = .ok (.aload_n 2, 1) := dk_44 (dk_at dksJ4_putVal_5 7 rfl rfl)
theorem dJ4_putVal_122 : decode cJ4_putVal 122 = .ok (.aload_n 3, 1) := dk_45 (dk_at dksJ4_putVal_5 8 rfl rfl)
theorem dJ4_putVal_123 : decode cJ4_putVal 123 = .ok (.invokevirtual 190, 3) := dk_182 0 190 (dk_at dksJ4_putVal_5 9 rfl rfl)
theorem dJ4_putVal_126 : decode cJ4_putVal 126 = .ok (.astore 10, 2) := dk_58 10 (dk_at dksJ4_putVal_5 12 rfl rfl)
theorem dJ4_putVal_128 : decode cJ4_putVal 128 = .ok (.goto 94, 3) := dk_167 0 94 (dk_at dksJ4_putVal_5 14 rfl rfl)
theorem dJ4_putVal_131 : decode cJ4_putVal 131 = .ok (.iconst 0, 1) := dk_3 (dk_at dksJ4_putVal_5 17 rfl rfl)
theorem dJ4_putVal_132 : decode cJ4_putVal 132 = .ok (.istore 12, 2) := dk_54 12 (dk_at dksJ4_putVal_5 18 rfl rfl)
theorem dJ4_putVal_134 : decode cJ4_putVal 134 = .ok (.aload 7, 2) := dk_25 7 (dk_at dksJ4_putVal_5 20 rfl rfl)
theorem dJ4_putVal_136 : decode cJ4_putVal 136 = .ok (.getfield 177, 3) := dk_180 0 177 (dk_at dksJ4_putVal_6 0 rfl rfl)
theorem dJ4_putVal_139 : decode cJ4_putVal 139 = .ok (.dup, 1) := dk_89 (dk_at dksJ4_putVal_6 3 rfl rfl)
theorem dJ4_putVal_140 : decode cJ4_putVal 140 = .ok (.astore 10, 2) := dk_58 10 (dk_at dksJ4_putVal_6 4 rfl rfl)
theorem dJ4_putVal_142 : decode cJ4_putVal 142 = .ok (.ifnonnull 33, 3) := dk_199 0 33 (dk_at dksJ4_putVal_6 6 rfl rfl)
theorem dJ4_putVal_145 : decode cJ4_putVal 145 = .ok (.aload 7, 2) := dk_25 7 (dk_at dksJ4_putVal_6 9 rfl rfl)
theorem dJ4_putVal_147 : decode cJ4_putVal 147 = .ok (.aload_n 0, 1) := dk_42 (dk_at dksJ4_putVal_6 11 rfl rfl)
theorem dJ4_putVal_148 : decode cJ4_putVal 148 = .ok (.iload_n 1, 1) := dk_27 (dk_at dksJ4_putVal_6 12 rfl rfl)
theorem dJ4_putVal_149 : decode cJ4_putVal 149 = .ok (.aload_n 2, 1) := dk_44 (dk_at dksJ4_putVal_6 13 rfl rfl)
theorem dJ4_putVal_150 : decode cJ4_putVal 150 = .ok (.aload_n 3, 1) := dk_45 (dk_at dksJ4_putVal_6 14 rfl rfl)
theorem dJ4_putVal_151 : decode cJ4_putVal 151 = .ok (.aconst_null, 1) := dk_1 (dk_at dksJ4_putVal_6 15 rfl rfl)
theorem dJ4_putVal_152 : decode cJ4_putVal 152 = .ok (.invokevirtual 186, 3) := dk_182 0 186 (dk_at dksJ4_putVal_6 16 rfl rfl)
theorem dJ4_putVal_155 : decode cJ4_putVal 155 = .ok (.putfield 177, 3) := dk_181 0 177 (dk_at dksJ4_putVal_6 19 rfl rfl)
theorem dJ4_putVal_158 : decode cJ4_putVal 158 = .ok (.iload 12, 2) := dk_21 12 (dk_at dksJ4_putVal_6 22 rfl rfl)
theorem dJ4_putVal_160 : decode cJ4_putVal 160 = .ok (.bipush 7, 2) := dk_16 7 (dk_at dksJ4_putVal_7 0 rfl rfl)
theorem dJ4_putVal_162 : decode cJ4_putVal 162 = .ok (.if_icmp .lt 60, 3) := dk_161 0 60 (dk_at dksJ4_putVal_7 2 rfl rfl)
theorem dJ4_putVal_165 : decode cJ4_putVal 165 = .ok (.aload_n 0, 1) := dk_42 (dk_at dksJ4_putVal_7 5 rfl rfl)
theorem dJ4_putVal_166 : decode cJ4_putVal 166 = .ok (.aload 6, 2) := dk_25 6 (dk_at dksJ4_putVal_7 6 rfl rfl)
theorem dJ4_putVal_168 : decode cJ4_putVal 168 = .ok (.iload_n 1, 1) := dk_27 (dk_at dksJ4_putVal_7 8 rfl rfl)
theorem dJ4_putVal_169 : decode cJ4_putVal 169 = .ok (.invokevirtual 194, 3) := dk_182 0 194 (dk_at dksJ4_putVal_7 9 rfl rfl)
theorem dJ4_putVal_172 : decode cJ4_putVal 172 = .ok (.goto 50, 3) := dk_167 0 50 (dk_at dksJ4_putVal_7 12 rfl rfl)
theorem dJ4_putVal_175 : decode cJ4_putVal 175 = .ok (.aload 10, 2) := dk_25 10 (dk_at dksJ4_putVal_7 15 rfl rfl)
theorem dJ4_putVal_177 : decode cJ4_putVal 177 = .ok (.getfield 168, 3) := dk_180 0 168 (dk_at dksJ4_putVal_7 17 rfl rfl)
theorem dJ4_putVal_180 : decode cJ4_putVal 180 = .ok (.iload_n 1, 1) := dk_27 (dk_at dksJ4_putVal_7 20 rfl rfl)
theorem dJ4_putVal_181 : decode cJ4_putVal 181 = .ok (.if_icmp .ne 31, 3) := dk_160 0 31 (dk_at dksJ4_putVal_7 21 rfl rfl)
theorem dJ4_putVal_184 : decode cJ4_putVal 184 = .ok (.aload 10, 2) := dk_25 10 (dk_at dksJ4_putVal_8 0 rfl rfl)
theorem dJ4_putVal_186 : decode cJ4_putVal 186 = .ok (.getfield 170, 3) := dk_180 0 170 (dk_at dksJ4_putVal_8 2 rfl rfl)
theorem dJ4_putVal_189 : decode cJ4_putVal 189 = .ok (.dup, 1) := dk_89 (dk_at dksJ4_putVal_8 5 rfl rfl)
theorem dJ4_putVal_190 : decode cJ4_putVal 190 = .ok (.astore 11, 2) := dk_58 11 (dk_at dksJ4_putVal_8 6 rfl rfl)
theorem dJ4_putVal_192 : decode cJ4_putVal 192 = .ok (.aload_n 2, 1) := dk_44 (dk_at dksJ4_putVal_8 8 rfl rfl)
theorem dJ4_putVal_193 : decode cJ4_putVal 193 = .ok (.if_acmp .eq 29, 3) := dk_165 0 29 (dk_at dksJ4_putVal_8 9 rfl rfl)
theorem dJ4_putVal_196 : decode cJ4_putVal 196 = .ok (.aload_n 2, 1) := dk_44 (dk_at dksJ4_putVal_8 12 rfl rfl)
theorem dJ4_putVal_197 : decode cJ4_putVal 197 = .ok (.ifnull 15, 3) := dk_198 0 15 (dk_at dksJ4_putVal_8 13 rfl rfl)
theorem dJ4_putVal_200 : decode cJ4_putVal 200 = .ok (.aload_n 2, 1) := dk_44 (dk_at dksJ4_putVal_8 16 rfl rfl)
theorem dJ4_putVal_201 : decode cJ4_putVal 201 = .ok (.aload 11, 2) := dk_25 11 (dk_at dksJ4_putVal_8 17 rfl rfl)
theorem dJ4_putVal_203 : decode cJ4_putVal 203 = .ok (.invokevirtual 173, 3) := dk_182 0 173 (dk_at dksJ4_putVal_8 19 rfl rfl)
theorem dJ4_putVal_206 : decode cJ4_putVal 206 = .ok (.ifCond .eq 6, 3) := dk_153 0 6 (dk_at dksJ4_putVal_9 0 rfl rfl)
theorem dJ4_putVal_209 : decode cJ4_putVal 209 = .ok (.goto 13, 3) := dk_167 0 13 (dk_at dksJ4_putVal_9 3 rfl rfl)
theorem dJ4_putVal_212 : decode cJ4_putVal 212 = .ok (.aload 10, 2) := dk_25 10 (dk_at dksJ4_putVal_9 6 rfl rfl)
theorem dJ4_putVal_214 : decode cJ4_putVal 214 = .ok (.astore 7, 2) := dk_58 7 (dk_at dksJ4_putVal_9 8 rfl rfl)
theorem dJ4_putVal_216 : decode cJ4_putVal 216 = .ok (.iinc 12 1, 3) := dk_132 12 1 (dk_at dksJ4_putVal_9 10 rfl rfl)
theorem dJ4_putVal_219 : decode cJ4_putVal 219 = .ok (.goto (-85), 3) := dk_167 255 171 (dk_at dksJ4_putVal_9 13 rfl rfl)
theorem dJ4_putVal_222 : decode cJ4_putVal 222 = .ok (.aload 10, 2) := dk_25 10 (dk_at dksJ4_putVal_9 16 rfl rfl)
theorem dJ4_putVal_224 : decode cJ4_putVal 224 = .ok (.ifnull 35, 3) := dk_198 0 35 (dk_at dksJ4_putVal_9 18 rfl rfl)
theorem dJ4_putVal_227 : decode cJ4_putVal 227 = .ok (.aload 10, 2) := dk_25 10 (dk_at dksJ4_putVal_9 21 rfl rfl)
theorem dJ4_putVal_229 : decode cJ4_putVal 229 = .ok (.getfield 162, 3) := dk_180 0 162 (dk_at dksJ4_putVal_10 0 rfl rfl)
theorem dJ4_putVal_232 : decode cJ4_putVal 232 = .ok (.astore 12, 2) := dk_58 12 (dk_at dksJ4_putVal_10 3 rfl rfl)
theorem dJ4_putVal_234 : decode cJ4_putVal 234 = .ok (.iload 4, 2) := dk_21 4 (dk_at dksJ4_putVal_10 5 rfl rfl)
theorem dJ4_putVal_236 : decode cJ4_putVal 236 = .ok (.ifCond .eq 8, 3) := dk_153 0 8 (dk_at dksJ4_putVal_10 7 rfl rfl)
theorem dJ4_putVal_239 : decode cJ4_putVal 239 = .ok (.aload 12, 2) := dk_25 12 (dk_at dksJ4_putVal_10 10 rfl rfl)
theorem dJ4_putVal_241 : decode cJ4_putVal 241 = .ok (.ifnonnull 9, 3) := dk_199 0 9 (dk_at dksJ4_putVal_10 12 rfl rfl)
theorem dJ4_putVal_244 : decode cJ4_putVal 244 = .ok (.aload 10, 2) := dk_25 10 (dk_at dksJ4_putVal_10 15 rfl rfl)
theorem dJ4_putVal_246 : decode cJ4_putVal 246 = .ok (.aload_n 3, 1) := dk_45 (dk_at dksJ4_putVal_10 17 rfl rfl)
theorem dJ4_putVal_247 : decode cJ4_putVal 247 = .ok (.putfield 162, 3) := dk_181 0 162 (dk_at dksJ4_putVal_10 18 rfl rfl)
theorem dJ4_putVal_250 : decode cJ4_putVal 250 = .ok (.aload_n 0, 1) := dk_42 (dk_at dksJ4_putVal_10 21 rfl rfl)
theorem dJ4_putVal_251 : decode cJ4_putVal 251 = .ok (.aload 10, 2) := dk_25 10 (dk_at dksJ4_putVal_10 22 rfl rfl)
theorem dJ4_putVal_253 : decode cJ4_putVal 253 = .ok (.invokevirtual 198, 3) := dk_182 0 198 (dk_at dksJ4_putVal_11 0 rfl rfl)
theorem dJ4_putVal_256 : decode cJ4_putVal 256 = .ok (.aload 12, 2) := dk_25 12 (dk_at dksJ4_putVal_11 3 rfl rfl)
theorem dJ4_putVal_258 : decode cJ4_putVal 258 = .ok (.areturn, 1) := dk_176 (dk_at dksJ4_putVal_11 5 rfl rfl)
theorem dJ4_putVal_259 : decode cJ4_putVal 259 = .ok (.aload_n 0, 1) := dk_42 (dk_at dksJ4_putVal_11 6 rfl rfl)
theorem dJ4_putVal_260 : decode cJ4_putVal 260 = .ok (.dup, 1) := dk_89 (dk_at dksJ4_putVal_11 7 rfl rfl)
theorem dJ4_putVal_261 : decode cJ4_putVal 261 = .ok (.getfield 202, 3) := dk_180 0 202 (dk_at dksJ4_putVal_11 8 rfl rfl)
theorem dJ4_putVal_264 : decode cJ4_putVal 264 = .ok (.iconst 1, 1) := dk_4 (dk_at dksJ4_putVal_11 11 rfl rfl)
theorem dJ4_putVal_265 : decode cJ4_putVal 265 = .ok (.iadd, 1) := dk_96 (dk_at dksJ4_putVal_11 12 rfl rfl)
theorem dJ4_putVal_266 : decode cJ4_putVal 266 = .ok (.putfield 202, 3) := dk_181 0 202 (dk_at dksJ4_putVal_11 13 rfl rfl)
theorem dJ4_putVal_269 : decode cJ4_putVal 269 = .ok (.aload_n 0, 1) := dk_42 (dk_at dksJ4_putVal_11 16 rfl rfl)
theorem dJ4_putVal_270 : decode cJ4_putVal 270 = .ok (.dup, 1) := dk_89 (dk_at dksJ4_putVal_11 17 rfl rfl)
theorem dJ4_putVal_271 : decode cJ4_putVal 271 = .ok (.getfield 156, 3) := dk_180 0 156 (dk_at dksJ4_putVal_11 18 rfl rfl)
theorem dJ4_putVal_274 : decode cJ4_putVal 274 = .ok (.iconst 1, 1) := dk_4 (dk_at dksJ4_putVal_11 21 rfl rfl)
theorem dJ4_putVal_275 : decode cJ4_putVal 275 = .ok (.iadd, 1) := dk_96 (dk_at dksJ4_putVal_11 22 rfl rfl)
theorem dJ4_putVal_276 : decode cJ4_putVal 276 = .ok (.dup_x1, 1) := dk_90 (dk_at dksJ4_putVal_11 23 rfl rfl)
theorem dJ4_putVal_277 : decode cJ4_putVal 277 = .ok (.putfield 156, 3) := dk_181 0 156 (dk_at dksJ4_putVal_12 0 rfl rfl)
theorem dJ4_putVal_280 : decode cJ4_putVal 280 = .ok (.aload_n 0, 1) := dk_42 (dk_at dksJ4_putVal_12 3 rfl rfl)
theorem dJ4_putVal_281 : decode cJ4_putVal 281 = .ok (.getfield 88, 3) := dk_180 0 88 (dk_at dksJ4_putVal_12 4 rfl rfl)
theorem dJ4_putVal_284 : decode cJ4_putVal 284 = .ok (.if_icmp .le 8, 3) := dk_164 0 8 (dk_at dksJ4_putVal_12 7 rfl rfl)
theorem dJ4_putVal_287 : decode cJ4_putVal 287 = .ok (.aload_n 0, 1) := dk_42 (dk_at dksJ4_putVal_12 10 rfl rfl)
theorem dJ4_putVal_288 : decode cJ4_putVal 288 = .ok (.invokevirtual 117, 3) := dk_182 0 117 (dk_at dksJ4_putVal_12 11 rfl rfl)
theorem dJ4_putVal_291 : decode cJ4_putVal 291 = .ok (.pop, 1) := dk_87 (dk_at dksJ4_putVal_12 14 rfl rfl)
theorem dJ4_putVal_292 : decode cJ4_putVal 292 = .ok (.aload_n 0, 1) := dk_42 (dk_at dksJ4_putVal_12 15 rfl rfl)
theorem dJ4_putVal_293 : decode cJ4_putVal 293 = .ok (.iload 5, 2) := dk_21 5 (dk_at dksJ4_putVal_12 16 rfl rfl)
theorem dJ4_putVal_295 : decode cJ4_putVal 295 = .ok (.invokevirtual 205, 3) := dk_182 0 205 (dk_at dksJ4_putVal_12 18 rfl rfl)
theorem dJ4_putVal_298 : decode cJ4_putVal 298 = .ok (.aconst_null, 1) := dk_1 (dk_at dksJ4_putVal_12 21 rfl rfl)
theorem dJ4_putVal_299 : decode cJ4_putVal 299 = .ok (.areturn, 1) := dk_176 (dk_at dksJ4_putVal_12 22 rfl rfl)
abbrev iJ4_putVal : xM := (yJ4_putVal, cJ4_putVal, 13, (some (.object "java/lang/Object")), [])
theorem mJ4_putVal : xOkM iJ4_putVal := ⟨by decide +kernel, by decide, q1461, q137⟩
abbrev cJ4_resize : ByteArray := prog_60_method_17_code
def yJ4_resize : MethodName := ⟨RJ4, "resize", "()[Ljava/util/HashMap$Node;"⟩
def dkwJ4_resize_15 : List UInt8 := [25, 6, 176]
abbrev dktJ4_resize_15 : List UInt8 := dkwJ4_resize_15 ++ []
def dkwJ4_resize_14 : List UInt8 := [198, 0, 18, 25, 12, 1, 181, 0, 177, 25, 6, 21, 7, 28, 96, 25, 11, 83, 132, 7, 1, 167, 255, 57]
abbrev dktJ4_resize_14 : List UInt8 := dkwJ4_resize_14 ++ dktJ4_resize_15
def dkwJ4_resize_13 : List UInt8 := [199, 255, 185, 25, 10, 198, 0, 16, 25, 10, 1, 181, 0, 177, 25, 6, 21, 7, 25, 9, 83, 25, 12]
abbrev dktJ4_resize_13 : List UInt8 := dkwJ4_resize_13 ++ dktJ4_resize_14
def dkwJ4_resize_12 : List UInt8 := [25, 8, 58, 11, 167, 0, 10, 25, 12, 25, 8, 181, 0, 177, 25, 8, 58, 12, 25, 13, 89, 58, 8]
abbrev dktJ4_resize_12 : List UInt8 := dkwJ4_resize_12 ++ dktJ4_resize_13
def dkwJ4_resize_11 : List UInt8 := [58, 9, 167, 0, 10, 25, 10, 25, 8, 181, 0, 177, 25, 8, 58, 10, 167, 0, 26, 25, 12, 199, 0, 10]
abbrev dktJ4_resize_11 : List UInt8 := dkwJ4_resize_11 ++ dktJ4_resize_12
def dkwJ4_resize_10 : List UInt8 := [25, 8, 180, 0, 177, 58, 13, 25, 8, 180, 0, 168, 28, 126, 154, 0, 29, 25, 10, 199, 0, 10, 25, 8]
abbrev dktJ4_resize_10 : List UInt8 := dkwJ4_resize_10 ++ dktJ4_resize_11
def dkwJ4_resize_9 : List UInt8 := [42, 25, 6, 21, 7, 28, 182, 0, 211, 167, 0, 127, 1, 58, 9, 1, 58, 10, 1, 58, 11, 1, 58, 12]
abbrev dktJ4_resize_9 : List UInt8 := dkwJ4_resize_9 ++ dktJ4_resize_10
def dkwJ4_resize_8 : List UInt8 := [21, 4, 4, 100, 126, 25, 8, 83, 167, 0, 152, 25, 8, 193, 0, 180, 153, 0, 20, 25, 8, 192, 0, 180]
abbrev dktJ4_resize_8 : List UInt8 := dkwJ4_resize_8 ++ dktJ4_resize_9
def dkwJ4_resize_7 : List UInt8 := [198, 0, 183, 43, 21, 7, 1, 83, 25, 8, 180, 0, 177, 199, 0, 21, 25, 6, 25, 8, 180, 0, 168]
abbrev dktJ4_resize_7 : List UInt8 := dkwJ4_resize_7 ++ dktJ4_resize_8
def dkwJ4_resize_6 : List UInt8 := [181, 0, 105, 43, 198, 0, 208, 3, 54, 7, 21, 7, 28, 162, 0, 199, 43, 21, 7, 50, 89, 58, 8]
abbrev dktJ4_resize_6 : List UInt8 := dkwJ4_resize_6 ++ dktJ4_resize_7
def dkwJ4_resize_5 : List UInt8 := [167, 0, 5, 18, 209, 54, 5, 42, 21, 5, 181, 0, 88, 21, 4, 189, 0, 163, 58, 6, 42, 25, 6]
abbrev dktJ4_resize_5 : List UInt8 := dkwJ4_resize_5 ++ dktJ4_resize_6
def dkwJ4_resize_4 : List UInt8 := [180, 0, 81, 106, 56, 6, 21, 4, 18, 42, 162, 0, 17, 23, 6, 18, 210, 150, 156, 0, 9, 23, 6, 139]
abbrev dktJ4_resize_4 : List UInt8 := dkwJ4_resize_4 ++ dktJ4_resize_5
def dkwJ4_resize_3 : List UInt8 := [54, 4, 167, 0, 11, 16, 16, 54, 4, 16, 12, 54, 5, 21, 5, 154, 0, 38, 21, 4, 134, 42]
abbrev dktJ4_resize_3 : List UInt8 := dkwJ4_resize_3 ++ dktJ4_resize_4
def dkwJ4_resize_2 : List UInt8 := [18, 42, 162, 0, 35, 28, 16, 16, 161, 0, 29, 29, 4, 120, 54, 5, 167, 0, 21, 29, 158, 0, 9, 29]
abbrev dktJ4_resize_2 : List UInt8 := dkwJ4_resize_2 ++ dktJ4_resize_3
def dkwJ4_resize_1 : List UInt8 := [28, 158, 0, 42, 28, 18, 42, 161, 0, 11, 42, 18, 209, 181, 0, 88, 43, 176, 28, 4, 120, 89, 54, 4]
abbrev dktJ4_resize_1 : List UInt8 := dkwJ4_resize_1 ++ dktJ4_resize_2
def dkwJ4_resize_0 : List UInt8 := [42, 180, 0, 105, 76, 43, 199, 0, 7, 3, 167, 0, 5, 43, 190, 61, 42, 180, 0, 88, 62, 3, 54, 5]
abbrev dktJ4_resize_0 : List UInt8 := dkwJ4_resize_0 ++ dktJ4_resize_1
theorem dksJ4_resize_0 : cJ4_resize.data.toList.drop 0 = dktJ4_resize_0 := by decide +kernel
theorem dksJ4_resize_1 : cJ4_resize.data.toList.drop 24 = dktJ4_resize_1 := dk_seg dksJ4_resize_0 24 rfl rfl
theorem dksJ4_resize_2 : cJ4_resize.data.toList.drop 48 = dktJ4_resize_2 := dk_seg dksJ4_resize_1 24 rfl rfl
theorem dksJ4_resize_3 : cJ4_resize.data.toList.drop 72 = dktJ4_resize_3 := dk_seg dksJ4_resize_2 24 rfl rfl
theorem dksJ4_resize_4 : cJ4_resize.data.toList.drop 94 = dktJ4_resize_4 := dk_seg dksJ4_resize_3 22 rfl rfl
theorem dksJ4_resize_5 : cJ4_resize.data.toList.drop 118 = dktJ4_resize_5 := dk_seg dksJ4_resize_4 24 rfl rfl
theorem dksJ4_resize_6 : cJ4_resize.data.toList.drop 141 = dktJ4_resize_6 := dk_seg dksJ4_resize_5 23 rfl rfl
theorem dksJ4_resize_7 : cJ4_resize.data.toList.drop 164 = dktJ4_resize_7 := dk_seg dksJ4_resize_6 23 rfl rfl
theorem dksJ4_resize_8 : cJ4_resize.data.toList.drop 187 = dktJ4_resize_8 := dk_seg dksJ4_resize_7 23 rfl rfl
theorem dksJ4_resize_9 : cJ4_resize.data.toList.drop 211 = dktJ4_resize_9 := dk_seg dksJ4_resize_8 24 rfl rfl
theorem dksJ4_resize_10 : cJ4_resize.data.toList.drop 235 = dktJ4_resize_10 := dk_seg dksJ4_resize_9 24 rfl rfl
theorem dksJ4_resize_11 : cJ4_resize.data.toList.drop 259 = dktJ4_resize_11 := dk_seg dksJ4_resize_10 24 rfl rfl
theorem dksJ4_resize_12 : cJ4_resize.data.toList.drop 283 = dktJ4_resize_12 := dk_seg dksJ4_resize_11 24 rfl rfl
theorem dksJ4_resize_13 : cJ4_resize.data.toList.drop 306 = dktJ4_resize_13 := dk_seg dksJ4_resize_12 23 rfl rfl
theorem dksJ4_resize_14 : cJ4_resize.data.toList.drop 329 = dktJ4_resize_14 := dk_seg dksJ4_resize_13 23 rfl rfl
theorem dksJ4_resize_15 : cJ4_resize.data.toList.drop 353 = dktJ4_resize_15 := dk_seg dksJ4_resize_14 24 rfl rfl
theorem dJ4_resize_0 : decode cJ4_resize 0 = .ok (.aload_n 0, 1) := dk_42 (dk_at dksJ4_resize_0 0 rfl rfl)
theorem dJ4_resize_1 : decode cJ4_resize 1 = .ok (.getfield 105, 3) := dk_180 0 105 (dk_at dksJ4_resize_0 1 rfl rfl)
theorem dJ4_resize_4 : decode cJ4_resize 4 = .ok (.astore_n 1, 1) := dk_76 (dk_at dksJ4_resize_0 4 rfl rfl)
theorem dJ4_resize_5 : decode cJ4_resize 5 = .ok (.aload_n 1, 1) := dk_43 (dk_at dksJ4_resize_0 5 rfl rfl)
theorem dJ4_resize_6 : decode cJ4_resize 6 = .ok (.ifnonnull 7, 3) := dk_199 0 7 (dk_at dksJ4_resize_0 6 rfl rfl)
theorem dJ4_resize_9 : decode cJ4_resize 9 = .ok (.iconst 0, 1) := dk_3 (dk_at dksJ4_resize_0 9 rfl rfl)
theorem dJ4_resize_10 : decode cJ4_resize 10 = .ok (.goto 5, 3) := dk_167 0 5 (dk_at dksJ4_resize_0 10 rfl rfl)
theorem dJ4_resize_13 : decode cJ4_resize 13 = .ok (.aload_n 1, 1) := dk_43 (dk_at dksJ4_resize_0 13 rfl rfl)
theorem dJ4_resize_14 : decode cJ4_resize 14 = .ok (.arraylength, 1) := dk_190 (dk_at dksJ4_resize_0 14 rfl rfl)
theorem dJ4_resize_15 : decode cJ4_resize 15 = .ok (.istore_n 2, 1) := dk_61 (dk_at dksJ4_resize_0 15 rfl rfl)
theorem dJ4_resize_16 : decode cJ4_resize 16 = .ok (.aload_n 0, 1) := dk_42 (dk_at dksJ4_resize_0 16 rfl rfl)
theorem dJ4_resize_17 : decode cJ4_resize 17 = .ok (.getfield 88, 3) := dk_180 0 88 (dk_at dksJ4_resize_0 17 rfl rfl)
theorem dJ4_resize_20 : decode cJ4_resize 20 = .ok (.istore_n 3, 1) := dk_62 (dk_at dksJ4_resize_0 20 rfl rfl)
theorem dJ4_resize_21 : decode cJ4_resize 21 = .ok (.iconst 0, 1) := dk_3 (dk_at dksJ4_resize_0 21 rfl rfl)
theorem dJ4_resize_22 : decode cJ4_resize 22 = .ok (.istore 5, 2) := dk_54 5 (dk_at dksJ4_resize_0 22 rfl rfl)
theorem dJ4_resize_24 : decode cJ4_resize 24 = .ok (.iload_n 2, 1) := dk_28 (dk_at dksJ4_resize_1 0 rfl rfl)
theorem dJ4_resize_25 : decode cJ4_resize 25 = .ok (.ifCond .le 42, 3) := dk_158 0 42 (dk_at dksJ4_resize_1 1 rfl rfl)
theorem dJ4_resize_28 : decode cJ4_resize 28 = .ok (.iload_n 2, 1) := dk_28 (dk_at dksJ4_resize_1 4 rfl rfl)
theorem dJ4_resize_29 : decode cJ4_resize 29 = .ok (.ldc 42, 2) := dk_18 42 (dk_at dksJ4_resize_1 5 rfl rfl)
theorem dJ4_resize_31 : decode cJ4_resize 31 = .ok (.if_icmp .lt 11, 3) := dk_161 0 11 (dk_at dksJ4_resize_1 7 rfl rfl)
theorem dJ4_resize_34 : decode cJ4_resize 34 = .ok (.aload_n 0, 1) := dk_42 (dk_at dksJ4_resize_1 10 rfl rfl)
theorem dJ4_resize_35 : decode cJ4_resize 35 = .ok (.ldc 209, 2) := dk_18 209 (dk_at dksJ4_resize_1 11 rfl rfl)
theorem dJ4_resize_37 : decode cJ4_resize 37 = .ok (.putfield 88, 3) := dk_181 0 88 (dk_at dksJ4_resize_1 13 rfl rfl)
theorem dJ4_resize_40 : decode cJ4_resize 40 = .ok (.aload_n 1, 1) := dk_43 (dk_at dksJ4_resize_1 16 rfl rfl)
theorem dJ4_resize_41 : decode cJ4_resize 41 = .ok (.areturn, 1) := dk_176 (dk_at dksJ4_resize_1 17 rfl rfl)
theorem dJ4_resize_42 : decode cJ4_resize 42 = .ok (.iload_n 2, 1) := dk_28 (dk_at dksJ4_resize_1 18 rfl rfl)
theorem dJ4_resize_43 : decode cJ4_resize 43 = .ok (.iconst 1, 1) := dk_4 (dk_at dksJ4_resize_1 19 rfl rfl)
theorem dJ4_resize_44 : decode cJ4_resize 44 = .ok (.ishl, 1) := dk_120 (dk_at dksJ4_resize_1 20 rfl rfl)
theorem dJ4_resize_45 : decode cJ4_resize 45 = .ok (.dup, 1) := dk_89 (dk_at dksJ4_resize_1 21 rfl rfl)
theorem dJ4_resize_46 : decode cJ4_resize 46 = .ok (.istore 4, 2) := dk_54 4 (dk_at dksJ4_resize_1 22 rfl rfl)
theorem dJ4_resize_48 : decode cJ4_resize 48 = .ok (.ldc 42, 2) := dk_18 42 (dk_at dksJ4_resize_2 0 rfl rfl)
theorem dJ4_resize_50 : decode cJ4_resize 50 = .ok (.if_icmp .ge 35, 3) := dk_162 0 35 (dk_at dksJ4_resize_2 2 rfl rfl)
theorem dJ4_resize_53 : decode cJ4_resize 53 = .ok (.iload_n 2, 1) := dk_28 (dk_at dksJ4_resize_2 5 rfl rfl)
theorem dJ4_resize_54 : decode cJ4_resize 54 = .ok (.bipush 16, 2) := dk_16 16 (dk_at dksJ4_resize_2 6 rfl rfl)
theorem dJ4_resize_56 : decode cJ4_resize 56 = .ok (.if_icmp .lt 29, 3) := dk_161 0 29 (dk_at dksJ4_resize_2 8 rfl rfl)
theorem dJ4_resize_59 : decode cJ4_resize 59 = .ok (.iload_n 3, 1) := dk_29 (dk_at dksJ4_resize_2 11 rfl rfl)
theorem dJ4_resize_60 : decode cJ4_resize 60 = .ok (.iconst 1, 1) := dk_4 (dk_at dksJ4_resize_2 12 rfl rfl)
theorem dJ4_resize_61 : decode cJ4_resize 61 = .ok (.ishl, 1) := dk_120 (dk_at dksJ4_resize_2 13 rfl rfl)
theorem dJ4_resize_62 : decode cJ4_resize 62 = .ok (.istore 5, 2) := dk_54 5 (dk_at dksJ4_resize_2 14 rfl rfl)
theorem dJ4_resize_64 : decode cJ4_resize 64 = .ok (.goto 21, 3) := dk_167 0 21 (dk_at dksJ4_resize_2 16 rfl rfl)
theorem dJ4_resize_67 : decode cJ4_resize 67 = .ok (.iload_n 3, 1) := dk_29 (dk_at dksJ4_resize_2 19 rfl rfl)
theorem dJ4_resize_68 : decode cJ4_resize 68 = .ok (.ifCond .le 9, 3) := dk_158 0 9 (dk_at dksJ4_resize_2 20 rfl rfl)
theorem dJ4_resize_71 : decode cJ4_resize 71 = .ok (.iload_n 3, 1) := dk_29 (dk_at dksJ4_resize_2 23 rfl rfl)
theorem dJ4_resize_72 : decode cJ4_resize 72 = .ok (.istore 4, 2) := dk_54 4 (dk_at dksJ4_resize_3 0 rfl rfl)
theorem dJ4_resize_74 : decode cJ4_resize 74 = .ok (.goto 11, 3) := dk_167 0 11 (dk_at dksJ4_resize_3 2 rfl rfl)
theorem dJ4_resize_77 : decode cJ4_resize 77 = .ok (.bipush 16, 2) := dk_16 16 (dk_at dksJ4_resize_3 5 rfl rfl)
theorem dJ4_resize_79 : decode cJ4_resize 79 = .ok (.istore 4, 2) := dk_54 4 (dk_at dksJ4_resize_3 7 rfl rfl)
theorem dJ4_resize_81 : decode cJ4_resize 81 = .ok (.bipush 12, 2) := dk_16 12 (dk_at dksJ4_resize_3 9 rfl rfl)
theorem dJ4_resize_83 : decode cJ4_resize 83 = .ok (.istore 5, 2) := dk_54 5 (dk_at dksJ4_resize_3 11 rfl rfl)
theorem dJ4_resize_85 : decode cJ4_resize 85 = .ok (.iload 5, 2) := dk_21 5 (dk_at dksJ4_resize_3 13 rfl rfl)
theorem dJ4_resize_87 : decode cJ4_resize 87 = .ok (.ifCond .ne 38, 3) := dk_154 0 38 (dk_at dksJ4_resize_3 15 rfl rfl)
theorem dJ4_resize_90 : decode cJ4_resize 90 = .ok (.iload 4, 2) := dk_21 4 (dk_at dksJ4_resize_3 18 rfl rfl)
theorem dJ4_resize_92 : decode cJ4_resize 92 = .ok (.i2f, 1) := dk_134 (dk_at dksJ4_resize_3 20 rfl rfl)
theorem dJ4_resize_93 : decode cJ4_resize 93 = .ok (.aload_n 0, 1) := dk_42 (dk_at dksJ4_resize_3 21 rfl rfl)
theorem dJ4_resize_94 : decode cJ4_resize 94 = .ok (.getfield 81, 3) := dk_180 0 81 (dk_at dksJ4_resize_4 0 rfl rfl)
theorem dJ4_resize_97 : decode cJ4_resize 97 = .ok (.fmul, 1) := dk_106 (dk_at dksJ4_resize_4 3 rfl rfl)
theorem dJ4_resize_98 : decode cJ4_resize 98 = .ok (.fstore 6, 2) := dk_56 6 (dk_at dksJ4_resize_4 4 rfl rfl)
theorem dJ4_resize_100 : decode cJ4_resize 100 = .ok (.iload 4, 2) := dk_21 4 (dk_at dksJ4_resize_4 6 rfl rfl)
theorem dJ4_resize_102 : decode cJ4_resize 102 = .ok (.ldc 42, 2) := dk_18 42 (dk_at dksJ4_resize_4 8 rfl rfl)
theorem dJ4_resize_104 : decode cJ4_resize 104 = .ok (.if_icmp .ge 17, 3) := dk_162 0 17 (dk_at dksJ4_resize_4 10 rfl rfl)
theorem dJ4_resize_107 : decode cJ4_resize 107 = .ok (.fload 6, 2) := dk_23 6 (dk_at dksJ4_resize_4 13 rfl rfl)
theorem dJ4_resize_109 : decode cJ4_resize 109 = .ok (.ldc 210, 2) := dk_18 210 (dk_at dksJ4_resize_4 15 rfl rfl)
theorem dJ4_resize_111 : decode cJ4_resize 111 = .ok (.fcmp .g, 1) := dk_150 (dk_at dksJ4_resize_4 17 rfl rfl)
theorem dJ4_resize_112 : decode cJ4_resize 112 = .ok (.ifCond .ge 9, 3) := dk_156 0 9 (dk_at dksJ4_resize_4 18 rfl rfl)
theorem dJ4_resize_115 : decode cJ4_resize 115 = .ok (.fload 6, 2) := dk_23 6 (dk_at dksJ4_resize_4 21 rfl rfl)
theorem dJ4_resize_117 : decode cJ4_resize 117 = .ok (.f2i, 1) := dk_139 (dk_at dksJ4_resize_4 23 rfl rfl)
theorem dJ4_resize_118 : decode cJ4_resize 118 = .ok (.goto 5, 3) := dk_167 0 5 (dk_at dksJ4_resize_5 0 rfl rfl)
theorem dJ4_resize_121 : decode cJ4_resize 121 = .ok (.ldc 209, 2) := dk_18 209 (dk_at dksJ4_resize_5 3 rfl rfl)
theorem dJ4_resize_123 : decode cJ4_resize 123 = .ok (.istore 5, 2) := dk_54 5 (dk_at dksJ4_resize_5 5 rfl rfl)
theorem dJ4_resize_125 : decode cJ4_resize 125 = .ok (.aload_n 0, 1) := dk_42 (dk_at dksJ4_resize_5 7 rfl rfl)
theorem dJ4_resize_126 : decode cJ4_resize 126 = .ok (.iload 5, 2) := dk_21 5 (dk_at dksJ4_resize_5 8 rfl rfl)
theorem dJ4_resize_128 : decode cJ4_resize 128 = .ok (.putfield 88, 3) := dk_181 0 88 (dk_at dksJ4_resize_5 10 rfl rfl)
theorem dJ4_resize_131 : decode cJ4_resize 131 = .ok (.iload 4, 2) := dk_21 4 (dk_at dksJ4_resize_5 13 rfl rfl)
theorem dJ4_resize_133 : decode cJ4_resize 133 = .ok (.anewarray 163, 3) := dk_189 0 163 (dk_at dksJ4_resize_5 15 rfl rfl)
theorem dJ4_resize_136 : decode cJ4_resize 136 = .ok (.astore 6, 2) := dk_58 6 (dk_at dksJ4_resize_5 18 rfl rfl)
theorem dJ4_resize_138 : decode cJ4_resize 138 = .ok (.aload_n 0, 1) := dk_42 (dk_at dksJ4_resize_5 20 rfl rfl)
theorem dJ4_resize_139 : decode cJ4_resize 139 = .ok (.aload 6, 2) := dk_25 6 (dk_at dksJ4_resize_5 21 rfl rfl)
theorem dJ4_resize_141 : decode cJ4_resize 141 = .ok (.putfield 105, 3) := dk_181 0 105 (dk_at dksJ4_resize_6 0 rfl rfl)
theorem dJ4_resize_144 : decode cJ4_resize 144 = .ok (.aload_n 1, 1) := dk_43 (dk_at dksJ4_resize_6 3 rfl rfl)
theorem dJ4_resize_145 : decode cJ4_resize 145 = .ok (.ifnull 208, 3) := dk_198 0 208 (dk_at dksJ4_resize_6 4 rfl rfl)
theorem dJ4_resize_148 : decode cJ4_resize 148 = .ok (.iconst 0, 1) := dk_3 (dk_at dksJ4_resize_6 7 rfl rfl)
theorem dJ4_resize_149 : decode cJ4_resize 149 = .ok (.istore 7, 2) := dk_54 7 (dk_at dksJ4_resize_6 8 rfl rfl)
theorem dJ4_resize_151 : decode cJ4_resize 151 = .ok (.iload 7, 2) := dk_21 7 (dk_at dksJ4_resize_6 10 rfl rfl)
theorem dJ4_resize_153 : decode cJ4_resize 153 = .ok (.iload_n 2, 1) := dk_28 (dk_at dksJ4_resize_6 12 rfl rfl)
theorem dJ4_resize_154 : decode cJ4_resize 154 = .ok (.if_icmp .ge 199, 3) := dk_162 0 199 (dk_at dksJ4_resize_6 13 rfl rfl)
theorem dJ4_resize_157 : decode cJ4_resize 157 = .ok (.aload_n 1, 1) := dk_43 (dk_at dksJ4_resize_6 16 rfl rfl)
theorem dJ4_resize_158 : decode cJ4_resize 158 = .ok (.iload 7, 2) := dk_21 7 (dk_at dksJ4_resize_6 17 rfl rfl)
theorem dJ4_resize_160 : decode cJ4_resize 160 = .ok (.aaload, 1) := dk_50 (dk_at dksJ4_resize_6 19 rfl rfl)
theorem dJ4_resize_161 : decode cJ4_resize 161 = .ok (.dup, 1) := dk_89 (dk_at dksJ4_resize_6 20 rfl rfl)
theorem dJ4_resize_162 : decode cJ4_resize 162 = .ok (.astore 8, 2) := dk_58 8 (dk_at dksJ4_resize_6 21 rfl rfl)
theorem dJ4_resize_164 : decode cJ4_resize 164 = .ok (.ifnull 183, 3) := dk_198 0 183 (dk_at dksJ4_resize_7 0 rfl rfl)
theorem dJ4_resize_167 : decode cJ4_resize 167 = .ok (.aload_n 1, 1) := dk_43 (dk_at dksJ4_resize_7 3 rfl rfl)
theorem dJ4_resize_168 : decode cJ4_resize 168 = .ok (.iload 7, 2) := dk_21 7 (dk_at dksJ4_resize_7 4 rfl rfl)
theorem dJ4_resize_170 : decode cJ4_resize 170 = .ok (.aconst_null, 1) := dk_1 (dk_at dksJ4_resize_7 6 rfl rfl)
theorem dJ4_resize_171 : decode cJ4_resize 171 = .ok (.aastore, 1) := dk_83 (dk_at dksJ4_resize_7 7 rfl rfl)
theorem dJ4_resize_172 : decode cJ4_resize 172 = .ok (.aload 8, 2) := dk_25 8 (dk_at dksJ4_resize_7 8 rfl rfl)
theorem dJ4_resize_174 : decode cJ4_resize 174 = .ok (.getfield 177, 3) := dk_180 0 177 (dk_at dksJ4_resize_7 10 rfl rfl)
theorem dJ4_resize_177 : decode cJ4_resize 177 = .ok (.ifnonnull 21, 3) := dk_199 0 21 (dk_at dksJ4_resize_7 13 rfl rfl)
theorem dJ4_resize_180 : decode cJ4_resize 180 = .ok (.aload 6, 2) := dk_25 6 (dk_at dksJ4_resize_7 16 rfl rfl)
theorem dJ4_resize_182 : decode cJ4_resize 182 = .ok (.aload 8, 2) := dk_25 8 (dk_at dksJ4_resize_7 18 rfl rfl)
theorem dJ4_resize_184 : decode cJ4_resize 184 = .ok (.getfield 168, 3) := dk_180 0 168 (dk_at dksJ4_resize_7 20 rfl rfl)
theorem dJ4_resize_187 : decode cJ4_resize 187 = .ok (.iload 4, 2) := dk_21 4 (dk_at dksJ4_resize_8 0 rfl rfl)
theorem dJ4_resize_189 : decode cJ4_resize 189 = .ok (.iconst 1, 1) := dk_4 (dk_at dksJ4_resize_8 2 rfl rfl)
theorem dJ4_resize_190 : decode cJ4_resize 190 = .ok (.isub, 1) := dk_100 (dk_at dksJ4_resize_8 3 rfl rfl)
theorem dJ4_resize_191 : decode cJ4_resize 191 = .ok (.iand, 1) := dk_126 (dk_at dksJ4_resize_8 4 rfl rfl)
theorem dJ4_resize_192 : decode cJ4_resize 192 = .ok (.aload 8, 2) := dk_25 8 (dk_at dksJ4_resize_8 5 rfl rfl)
theorem dJ4_resize_194 : decode cJ4_resize 194 = .ok (.aastore, 1) := dk_83 (dk_at dksJ4_resize_8 7 rfl rfl)
theorem dJ4_resize_195 : decode cJ4_resize 195 = .ok (.goto 152, 3) := dk_167 0 152 (dk_at dksJ4_resize_8 8 rfl rfl)
theorem dJ4_resize_198 : decode cJ4_resize 198 = .ok (.aload 8, 2) := dk_25 8 (dk_at dksJ4_resize_8 11 rfl rfl)
theorem dJ4_resize_200 : decode cJ4_resize 200 = .ok (.instanceof 180, 3) := dk_193 0 180 (dk_at dksJ4_resize_8 13 rfl rfl)
theorem dJ4_resize_203 : decode cJ4_resize 203 = .ok (.ifCond .eq 20, 3) := dk_153 0 20 (dk_at dksJ4_resize_8 16 rfl rfl)
theorem dJ4_resize_206 : decode cJ4_resize 206 = .ok (.aload 8, 2) := dk_25 8 (dk_at dksJ4_resize_8 19 rfl rfl)
theorem dJ4_resize_208 : decode cJ4_resize 208 = .ok (.checkcast 180, 3) := dk_192 0 180 (dk_at dksJ4_resize_8 21 rfl rfl)
theorem dJ4_resize_211 : decode cJ4_resize 211 = .ok (.aload_n 0, 1) := dk_42 (dk_at dksJ4_resize_9 0 rfl rfl)
theorem dJ4_resize_212 : decode cJ4_resize 212 = .ok (.aload 6, 2) := dk_25 6 (dk_at dksJ4_resize_9 1 rfl rfl)
theorem dJ4_resize_214 : decode cJ4_resize 214 = .ok (.iload 7, 2) := dk_21 7 (dk_at dksJ4_resize_9 3 rfl rfl)
theorem dJ4_resize_216 : decode cJ4_resize 216 = .ok (.iload_n 2, 1) := dk_28 (dk_at dksJ4_resize_9 5 rfl rfl)
theorem dJ4_resize_217 : decode cJ4_resize 217 = .ok (.invokevirtual 211, 3) := dk_182 0 211 (dk_at dksJ4_resize_9 6 rfl rfl)
theorem dJ4_resize_220 : decode cJ4_resize 220 = .ok (.goto 127, 3) := dk_167 0 127 (dk_at dksJ4_resize_9 9 rfl rfl)
theorem dJ4_resize_223 : decode cJ4_resize 223 = .ok (.aconst_null, 1) := dk_1 (dk_at dksJ4_resize_9 12 rfl rfl)
theorem dJ4_resize_224 : decode cJ4_resize 224 = .ok (.astore 9, 2) := dk_58 9 (dk_at dksJ4_resize_9 13 rfl rfl)
theorem dJ4_resize_226 : decode cJ4_resize 226 = .ok (.aconst_null, 1) := dk_1 (dk_at dksJ4_resize_9 15 rfl rfl)
theorem dJ4_resize_227 : decode cJ4_resize 227 = .ok (.astore 10, 2) := dk_58 10 (dk_at dksJ4_resize_9 16 rfl rfl)
theorem dJ4_resize_229 : decode cJ4_resize 229 = .ok (.aconst_null, 1) := dk_1 (dk_at dksJ4_resize_9 18 rfl rfl)
theorem dJ4_resize_230 : decode cJ4_resize 230 = .ok (.astore 11, 2) := dk_58 11 (dk_at dksJ4_resize_9 19 rfl rfl)
theorem dJ4_resize_232 : decode cJ4_resize 232 = .ok (.aconst_null, 1) := dk_1 (dk_at dksJ4_resize_9 21 rfl rfl)
theorem dJ4_resize_233 : decode cJ4_resize 233 = .ok (.astore 12, 2) := dk_58 12 (dk_at dksJ4_resize_9 22 rfl rfl)
theorem dJ4_resize_235 : decode cJ4_resize 235 = .ok (.aload 8, 2) := dk_25 8 (dk_at dksJ4_resize_10 0 rfl rfl)
theorem dJ4_resize_237 : decode cJ4_resize 237 = .ok (.getfield 177, 3) := dk_180 0 177 (dk_at dksJ4_resize_10 2 rfl rfl)
theorem dJ4_resize_240 : decode cJ4_resize 240 = .ok (.astore 13, 2) := dk_58 13 (dk_at dksJ4_resize_10 5 rfl rfl)
theorem dJ4_resize_242 : decode cJ4_resize 242 = .ok (.aload 8, 2) := dk_25 8 (dk_at dksJ4_resize_10 7 rfl rfl)
theorem dJ4_resize_244 : decode cJ4_resize 244 = .ok (.getfield 168, 3) := dk_180 0 168 (dk_at dksJ4_resize_10 9 rfl rfl)
theorem dJ4_resize_247 : decode cJ4_resize 247 = .ok (.iload_n 2, 1) := dk_28 (dk_at dksJ4_resize_10 12 rfl rfl)
theorem dJ4_resize_248 : decode cJ4_resize 248 = .ok (.iand, 1) := dk_126 (dk_at dksJ4_resize_10 13 rfl rfl)
theorem dJ4_resize_249 : decode cJ4_resize 249 = .ok (.ifCond .ne 29, 3) := dk_154 0 29 (dk_at dksJ4_resize_10 14 rfl rfl)
theorem dJ4_resize_252 : decode cJ4_resize 252 = .ok (.aload 10, 2) := dk_25 10 (dk_at dksJ4_resize_10 17 rfl rfl)
theorem dJ4_resize_254 : decode cJ4_resize 254 = .ok (.ifnonnull 10, 3) := dk_199 0 10 (dk_at dksJ4_resize_10 19 rfl rfl)
theorem dJ4_resize_257 : decode cJ4_resize 257 = .ok (.aload 8, 2) := dk_25 8 (dk_at dksJ4_resize_10 22 rfl rfl)
theorem dJ4_resize_259 : decode cJ4_resize 259 = .ok (.astore 9, 2) := dk_58 9 (dk_at dksJ4_resize_11 0 rfl rfl)
theorem dJ4_resize_261 : decode cJ4_resize 261 = .ok (.goto 10, 3) := dk_167 0 10 (dk_at dksJ4_resize_11 2 rfl rfl)
theorem dJ4_resize_264 : decode cJ4_resize 264 = .ok (.aload 10, 2) := dk_25 10 (dk_at dksJ4_resize_11 5 rfl rfl)
theorem dJ4_resize_266 : decode cJ4_resize 266 = .ok (.aload 8, 2) := dk_25 8 (dk_at dksJ4_resize_11 7 rfl rfl)
theorem dJ4_resize_268 : decode cJ4_resize 268 = .ok (.putfield 177, 3) := dk_181 0 177 (dk_at dksJ4_resize_11 9 rfl rfl)
theorem dJ4_resize_271 : decode cJ4_resize 271 = .ok (.aload 8, 2) := dk_25 8 (dk_at dksJ4_resize_11 12 rfl rfl)
theorem dJ4_resize_273 : decode cJ4_resize 273 = .ok (.astore 10, 2) := dk_58 10 (dk_at dksJ4_resize_11 14 rfl rfl)
theorem dJ4_resize_275 : decode cJ4_resize 275 = .ok (.goto 26, 3) := dk_167 0 26 (dk_at dksJ4_resize_11 16 rfl rfl)
theorem dJ4_resize_278 : decode cJ4_resize 278 = .ok (.aload 12, 2) := dk_25 12 (dk_at dksJ4_resize_11 19 rfl rfl)
theorem dJ4_resize_280 : decode cJ4_resize 280 = .ok (.ifnonnull 10, 3) := dk_199 0 10 (dk_at dksJ4_resize_11 21 rfl rfl)
theorem dJ4_resize_283 : decode cJ4_resize 283 = .ok (.aload 8, 2) := dk_25 8 (dk_at dksJ4_resize_12 0 rfl rfl)
theorem dJ4_resize_285 : decode cJ4_resize 285 = .ok (.astore 11, 2) := dk_58 11 (dk_at dksJ4_resize_12 2 rfl rfl)
theorem dJ4_resize_287 : decode cJ4_resize 287 = .ok (.goto 10, 3) := dk_167 0 10 (dk_at dksJ4_resize_12 4 rfl rfl)
theorem dJ4_resize_290 : decode cJ4_resize 290 = .ok (.aload 12, 2) := dk_25 12 (dk_at dksJ4_resize_12 7 rfl rfl)
theorem dJ4_resize_292 : decode cJ4_resize 292 = .ok (.aload 8, 2) := dk_25 8 (dk_at dksJ4_resize_12 9 rfl rfl)
theorem dJ4_resize_294 : decode cJ4_resize 294 = .ok (.putfield 177, 3) := dk_181 0 177 (dk_at dksJ4_resize_12 11 rfl rfl)
theorem dJ4_resize_297 : decode cJ4_resize 297 = .ok (.aload 8, 2) := dk_25 8 (dk_at dksJ4_resize_12 14 rfl rfl)
theorem dJ4_resize_299 : decode cJ4_resize 299 = .ok (.astore 12, 2) := dk_58 12 (dk_at dksJ4_resize_12 16 rfl rfl)
theorem dJ4_resize_301 : decode cJ4_resize 301 = .ok (.aload 13, 2) := dk_25 13 (dk_at dksJ4_resize_12 18 rfl rfl)
theorem dJ4_resize_303 : decode cJ4_resize 303 = .ok (.dup, 1) := dk_89 (dk_at dksJ4_resize_12 20 rfl rfl)
theorem dJ4_resize_304 : decode cJ4_resize 304 = .ok (.astore 8, 2) := dk_58 8 (dk_at dksJ4_resize_12 21 rfl rfl)
theorem dJ4_resize_306 : decode cJ4_resize 306 = .ok (.ifnonnull (-71), 3) := dk_199 255 185 (dk_at dksJ4_resize_13 0 rfl rfl)
theorem dJ4_resize_309 : decode cJ4_resize 309 = .ok (.aload 10, 2) := dk_25 10 (dk_at dksJ4_resize_13 3 rfl rfl)
theorem dJ4_resize_311 : decode cJ4_resize 311 = .ok (.ifnull 16, 3) := dk_198 0 16 (dk_at dksJ4_resize_13 5 rfl rfl)
theorem dJ4_resize_314 : decode cJ4_resize 314 = .ok (.aload 10, 2) := dk_25 10 (dk_at dksJ4_resize_13 8 rfl rfl)
theorem dJ4_resize_316 : decode cJ4_resize 316 = .ok (.aconst_null, 1) := dk_1 (dk_at dksJ4_resize_13 10 rfl rfl)
theorem dJ4_resize_317 : decode cJ4_resize 317 = .ok (.putfield 177, 3) := dk_181 0 177 (dk_at dksJ4_resize_13 11 rfl rfl)
theorem dJ4_resize_320 : decode cJ4_resize 320 = .ok (.aload 6, 2) := dk_25 6 (dk_at dksJ4_resize_13 14 rfl rfl)
theorem dJ4_resize_322 : decode cJ4_resize 322 = .ok (.iload 7, 2) := dk_21 7 (dk_at dksJ4_resize_13 16 rfl rfl)
theorem dJ4_resize_324 : decode cJ4_resize 324 = .ok (.aload 9, 2) := dk_25 9 (dk_at dksJ4_resize_13 18 rfl rfl)
theorem dJ4_resize_326 : decode cJ4_resize 326 = .ok (.aastore, 1) := dk_83 (dk_at dksJ4_resize_13 20 rfl rfl)
theorem dJ4_resize_327 : decode cJ4_resize 327 = .ok (.aload 12, 2) := dk_25 12 (dk_at dksJ4_resize_13 21 rfl rfl)
theorem dJ4_resize_329 : decode cJ4_resize 329 = .ok (.ifnull 18, 3) := dk_198 0 18 (dk_at dksJ4_resize_14 0 rfl rfl)
theorem dJ4_resize_332 : decode cJ4_resize 332 = .ok (.aload 12, 2) := dk_25 12 (dk_at dksJ4_resize_14 3 rfl rfl)
theorem dJ4_resize_334 : decode cJ4_resize 334 = .ok (.aconst_null, 1) := dk_1 (dk_at dksJ4_resize_14 5 rfl rfl)
theorem dJ4_resize_335 : decode cJ4_resize 335 = .ok (.putfield 177, 3) := dk_181 0 177 (dk_at dksJ4_resize_14 6 rfl rfl)
theorem dJ4_resize_338 : decode cJ4_resize 338 = .ok (.aload 6, 2) := dk_25 6 (dk_at dksJ4_resize_14 9 rfl rfl)
theorem dJ4_resize_340 : decode cJ4_resize 340 = .ok (.iload 7, 2) := dk_21 7 (dk_at dksJ4_resize_14 11 rfl rfl)
theorem dJ4_resize_342 : decode cJ4_resize 342 = .ok (.iload_n 2, 1) := dk_28 (dk_at dksJ4_resize_14 13 rfl rfl)
theorem dJ4_resize_343 : decode cJ4_resize 343 = .ok (.iadd, 1) := dk_96 (dk_at dksJ4_resize_14 14 rfl rfl)
theorem dJ4_resize_344 : decode cJ4_resize 344 = .ok (.aload 11, 2) := dk_25 11 (dk_at dksJ4_resize_14 15 rfl rfl)
theorem dJ4_resize_346 : decode cJ4_resize 346 = .ok (.aastore, 1) := dk_83 (dk_at dksJ4_resize_14 17 rfl rfl)
theorem dJ4_resize_347 : decode cJ4_resize 347 = .ok (.iinc 7 1, 3) := dk_132 7 1 (dk_at dksJ4_resize_14 18 rfl rfl)
theorem dJ4_resize_350 : decode cJ4_resize 350 = .ok (.goto (-199), 3) := dk_167 255 57 (dk_at dksJ4_resize_14 21 rfl rfl)
theorem dJ4_resize_353 : decode cJ4_resize 353 = .ok (.aload 6, 2) := dk_25 6 (dk_at dksJ4_resize_15 0 rfl rfl)
theorem dJ4_resize_355 : decode cJ4_resize 355 = .ok (.areturn, 1) := dk_176 (dk_at dksJ4_resize_15 2 rfl rfl)
abbrev iJ4_resize : xM := (yJ4_resize, cJ4_resize, 14, (some (.array (.object "java/util/HashMap$Node"))), [])
theorem mJ4_resize : xOkM iJ4_resize := ⟨by decide +kernel, by decide, q1466, q137⟩
abbrev cJ4_comparableClassFor : ByteArray := prog_60_method_2_code
def yJ4_comparableClassFor : MethodName := ⟨RJ4, "comparableClassFor", "(Ljava/lang/Object;)Ljava/lang/Class;"⟩
def dkwJ4_comparableClassFor_4 : List UInt8 := [4, 160, 0, 12, 45, 3, 50, 43, 166, 0, 5, 43, 176, 132, 7, 1, 167, 255, 186, 1, 176]
abbrev dktJ4_comparableClassFor_4 : List UInt8 := dkwJ4_comparableClassFor_4 ++ []
def dkwJ4_comparableClassFor_3 : List UInt8 := [185, 0, 23, 1, 0, 18, 7, 166, 0, 30, 25, 4, 185, 0, 27, 1, 0, 89, 78, 198, 0, 18, 45, 190]
abbrev dktJ4_comparableClassFor_3 : List UInt8 := dkwJ4_comparableClassFor_3 ++ dktJ4_comparableClassFor_4
def dkwJ4_comparableClassFor_2 : List UInt8 := [25, 5, 21, 7, 50, 58, 8, 25, 8, 193, 0, 21, 153, 0, 48, 25, 8, 192, 0, 21, 89, 58, 4]
abbrev dktJ4_comparableClassFor_2 : List UInt8 := dkwJ4_comparableClassFor_2 ++ dktJ4_comparableClassFor_3
def dkwJ4_comparableClassFor_1 : List UInt8 := [89, 77, 198, 0, 87, 44, 58, 5, 25, 5, 190, 54, 6, 3, 54, 7, 21, 7, 21, 6, 162, 0, 69]
abbrev dktJ4_comparableClassFor_1 : List UInt8 := dkwJ4_comparableClassFor_1 ++ dktJ4_comparableClassFor_2
def dkwJ4_comparableClassFor_0 : List UInt8 := [42, 193, 0, 7, 153, 0, 109, 42, 182, 0, 9, 89, 76, 18, 13, 166, 0, 5, 43, 176, 43, 182, 0, 15]
abbrev dktJ4_comparableClassFor_0 : List UInt8 := dkwJ4_comparableClassFor_0 ++ dktJ4_comparableClassFor_1
theorem dksJ4_comparableClassFor_0 : cJ4_comparableClassFor.data.toList.drop 0 = dktJ4_comparableClassFor_0 := by decide +kernel
theorem dksJ4_comparableClassFor_1 : cJ4_comparableClassFor.data.toList.drop 24 = dktJ4_comparableClassFor_1 := dk_seg dksJ4_comparableClassFor_0 24 rfl rfl
theorem dksJ4_comparableClassFor_2 : cJ4_comparableClassFor.data.toList.drop 47 = dktJ4_comparableClassFor_2 := dk_seg dksJ4_comparableClassFor_1 23 rfl rfl
theorem dksJ4_comparableClassFor_3 : cJ4_comparableClassFor.data.toList.drop 70 = dktJ4_comparableClassFor_3 := dk_seg dksJ4_comparableClassFor_2 23 rfl rfl
theorem dksJ4_comparableClassFor_4 : cJ4_comparableClassFor.data.toList.drop 94 = dktJ4_comparableClassFor_4 := dk_seg dksJ4_comparableClassFor_3 24 rfl rfl
theorem dJ4_comparableClassFor_0 : decode cJ4_comparableClassFor 0 = .ok (.aload_n 0, 1) := dk_42 (dk_at dksJ4_comparableClassFor_0 0 rfl rfl)
theorem dJ4_comparableClassFor_1 : decode cJ4_comparableClassFor 1 = .ok (.instanceof 7, 3) := dk_193 0 7 (dk_at dksJ4_comparableClassFor_0 1 rfl rfl)
theorem dJ4_comparableClassFor_4 : decode cJ4_comparableClassFor 4 = .ok (.ifCond .eq 109, 3) := dk_153 0 109 (dk_at dksJ4_comparableClassFor_0 4 rfl rfl)
theorem dJ4_comparableClassFor_7 : decode cJ4_comparableClassFor 7 = .ok (.aload_n 0, 1) := dk_42 (dk_at dksJ4_comparableClassFor_0 7 rfl rfl)
theorem dJ4_comparableClassFor_8 : decode cJ4_comparableClassFor 8 = .ok (.invokevirtual 9, 3) := dk_182 0 9 (dk_at dksJ4_comparableClassFor_0 8 rfl rfl)
theorem dJ4_comparableClassFor_11 : decode cJ4_comparableClassFor 11 = .ok (.dup, 1) := dk_89 (dk_at dksJ4_comparableClassFor_0 11 rfl rfl)
theorem dJ4_comparableClassFor_12 : decode cJ4_comparableClassFor 12 = .ok (.astore_n 1, 1) := dk_76 (dk_at dksJ4_comparableClassFor_0 12 rfl rfl)
theorem dJ4_comparableClassFor_13 : decode cJ4_comparableClassFor 13 = .ok (.ldc 13, 2) := dk_18 13 (dk_at dksJ4_comparableClassFor_0 13 rfl rfl)
theorem dJ4_comparableClassFor_15 : decode cJ4_comparableClassFor 15 = .ok (.if_acmp .ne 5, 3) := dk_166 0 5 (dk_at dksJ4_comparableClassFor_0 15 rfl rfl)
theorem dJ4_comparableClassFor_18 : decode cJ4_comparableClassFor 18 = .ok (.aload_n 1, 1) := dk_43 (dk_at dksJ4_comparableClassFor_0 18 rfl rfl)
theorem dJ4_comparableClassFor_19 : decode cJ4_comparableClassFor 19 = .ok (.areturn, 1) := dk_176 (dk_at dksJ4_comparableClassFor_0 19 rfl rfl)
theorem dJ4_comparableClassFor_20 : decode cJ4_comparableClassFor 20 = .ok (.aload_n 1, 1) := dk_43 (dk_at dksJ4_comparableClassFor_0 20 rfl rfl)
theorem dJ4_comparableClassFor_21 : decode cJ4_comparableClassFor 21 = .ok (.invokevirtual 15, 3) := dk_182 0 15 (dk_at dksJ4_comparableClassFor_0 21 rfl rfl)
theorem dJ4_comparableClassFor_24 : decode cJ4_comparableClassFor 24 = .ok (.dup, 1) := dk_89 (dk_at dksJ4_comparableClassFor_1 0 rfl rfl)
theorem dJ4_comparableClassFor_25 : decode cJ4_comparableClassFor 25 = .ok (.astore_n 2, 1) := dk_77 (dk_at dksJ4_comparableClassFor_1 1 rfl rfl)
theorem dJ4_comparableClassFor_26 : decode cJ4_comparableClassFor 26 = .ok (.ifnull 87, 3) := dk_198 0 87 (dk_at dksJ4_comparableClassFor_1 2 rfl rfl)
theorem dJ4_comparableClassFor_29 : decode cJ4_comparableClassFor 29 = .ok (.aload_n 2, 1) := dk_44 (dk_at dksJ4_comparableClassFor_1 5 rfl rfl)
theorem dJ4_comparableClassFor_30 : decode cJ4_comparableClassFor 30 = .ok (.astore 5, 2) := dk_58 5 (dk_at dksJ4_comparableClassFor_1 6 rfl rfl)
theorem dJ4_comparableClassFor_32 : decode cJ4_comparableClassFor 32 = .ok (.aload 5, 2) := dk_25 5 (dk_at dksJ4_comparableClassFor_1 8 rfl rfl)
theorem dJ4_comparableClassFor_34 : decode cJ4_comparableClassFor 34 = .ok (.arraylength, 1) := dk_190 (dk_at dksJ4_comparableClassFor_1 10 rfl rfl)
theorem dJ4_comparableClassFor_35 : decode cJ4_comparableClassFor 35 = .ok (.istore 6, 2) := dk_54 6 (dk_at dksJ4_comparableClassFor_1 11 rfl rfl)
theorem dJ4_comparableClassFor_37 : decode cJ4_comparableClassFor 37 = .ok (.iconst 0, 1) := dk_3 (dk_at dksJ4_comparableClassFor_1 13 rfl rfl)
theorem dJ4_comparableClassFor_38 : decode cJ4_comparableClassFor 38 = .ok (.istore 7, 2) := dk_54 7 (dk_at dksJ4_comparableClassFor_1 14 rfl rfl)
theorem dJ4_comparableClassFor_40 : decode cJ4_comparableClassFor 40 = .ok (.iload 7, 2) := dk_21 7 (dk_at dksJ4_comparableClassFor_1 16 rfl rfl)
theorem dJ4_comparableClassFor_42 : decode cJ4_comparableClassFor 42 = .ok (.iload 6, 2) := dk_21 6 (dk_at dksJ4_comparableClassFor_1 18 rfl rfl)
theorem dJ4_comparableClassFor_44 : decode cJ4_comparableClassFor 44 = .ok (.if_icmp .ge 69, 3) := dk_162 0 69 (dk_at dksJ4_comparableClassFor_1 20 rfl rfl)
theorem dJ4_comparableClassFor_47 : decode cJ4_comparableClassFor 47 = .ok (.aload 5, 2) := dk_25 5 (dk_at dksJ4_comparableClassFor_2 0 rfl rfl)
theorem dJ4_comparableClassFor_49 : decode cJ4_comparableClassFor 49 = .ok (.iload 7, 2) := dk_21 7 (dk_at dksJ4_comparableClassFor_2 2 rfl rfl)
theorem dJ4_comparableClassFor_51 : decode cJ4_comparableClassFor 51 = .ok (.aaload, 1) := dk_50 (dk_at dksJ4_comparableClassFor_2 4 rfl rfl)
theorem dJ4_comparableClassFor_52 : decode cJ4_comparableClassFor 52 = .ok (.astore 8, 2) := dk_58 8 (dk_at dksJ4_comparableClassFor_2 5 rfl rfl)
theorem dJ4_comparableClassFor_54 : decode cJ4_comparableClassFor 54 = .ok (.aload 8, 2) := dk_25 8 (dk_at dksJ4_comparableClassFor_2 7 rfl rfl)
theorem dJ4_comparableClassFor_56 : decode cJ4_comparableClassFor 56 = .ok (.instanceof 21, 3) := dk_193 0 21 (dk_at dksJ4_comparableClassFor_2 9 rfl rfl)
theorem dJ4_comparableClassFor_59 : decode cJ4_comparableClassFor 59 = .ok (.ifCond .eq 48, 3) := dk_153 0 48 (dk_at dksJ4_comparableClassFor_2 12 rfl rfl)
theorem dJ4_comparableClassFor_62 : decode cJ4_comparableClassFor 62 = .ok (.aload 8, 2) := dk_25 8 (dk_at dksJ4_comparableClassFor_2 15 rfl rfl)
theorem dJ4_comparableClassFor_64 : decode cJ4_comparableClassFor 64 = .ok (.checkcast 21, 3) := dk_192 0 21 (dk_at dksJ4_comparableClassFor_2 17 rfl rfl)
theorem dJ4_comparableClassFor_67 : decode cJ4_comparableClassFor 67 = .ok (.dup, 1) := dk_89 (dk_at dksJ4_comparableClassFor_2 20 rfl rfl)
theorem dJ4_comparableClassFor_68 : decode cJ4_comparableClassFor 68 = .ok (.astore 4, 2) := dk_58 4 (dk_at dksJ4_comparableClassFor_2 21 rfl rfl)
theorem dJ4_comparableClassFor_70 : decode cJ4_comparableClassFor 70 = .ok (.invokeinterface 23 1, 5) := by decide +kernel
theorem dJ4_comparableClassFor_75 : decode cJ4_comparableClassFor 75 = .ok (.ldc 7, 2) := dk_18 7 (dk_at dksJ4_comparableClassFor_3 5 rfl rfl)
theorem dJ4_comparableClassFor_77 : decode cJ4_comparableClassFor 77 = .ok (.if_acmp .ne 30, 3) := dk_166 0 30 (dk_at dksJ4_comparableClassFor_3 7 rfl rfl)
theorem dJ4_comparableClassFor_80 : decode cJ4_comparableClassFor 80 = .ok (.aload 4, 2) := dk_25 4 (dk_at dksJ4_comparableClassFor_3 10 rfl rfl)
theorem dJ4_comparableClassFor_82 : decode cJ4_comparableClassFor 82 = .ok (.invokeinterface 27 1, 5) := by decide +kernel
theorem dJ4_comparableClassFor_87 : decode cJ4_comparableClassFor 87 = .ok (.dup, 1) := dk_89 (dk_at dksJ4_comparableClassFor_3 17 rfl rfl)
theorem dJ4_comparableClassFor_88 : decode cJ4_comparableClassFor 88 = .ok (.astore_n 3, 1) := dk_78 (dk_at dksJ4_comparableClassFor_3 18 rfl rfl)
theorem dJ4_comparableClassFor_89 : decode cJ4_comparableClassFor 89 = .ok (.ifnull 18, 3) := dk_198 0 18 (dk_at dksJ4_comparableClassFor_3 19 rfl rfl)
theorem dJ4_comparableClassFor_92 : decode cJ4_comparableClassFor 92 = .ok (.aload_n 3, 1) := dk_45 (dk_at dksJ4_comparableClassFor_3 22 rfl rfl)
theorem dJ4_comparableClassFor_93 : decode cJ4_comparableClassFor 93 = .ok (.arraylength, 1) := dk_190 (dk_at dksJ4_comparableClassFor_3 23 rfl rfl)
theorem dJ4_comparableClassFor_94 : decode cJ4_comparableClassFor 94 = .ok (.iconst 1, 1) := dk_4 (dk_at dksJ4_comparableClassFor_4 0 rfl rfl)
theorem dJ4_comparableClassFor_95 : decode cJ4_comparableClassFor 95 = .ok (.if_icmp .ne 12, 3) := dk_160 0 12 (dk_at dksJ4_comparableClassFor_4 1 rfl rfl)
theorem dJ4_comparableClassFor_98 : decode cJ4_comparableClassFor 98 = .ok (.aload_n 3, 1) := dk_45 (dk_at dksJ4_comparableClassFor_4 4 rfl rfl)
theorem dJ4_comparableClassFor_99 : decode cJ4_comparableClassFor 99 = .ok (.iconst 0, 1) := dk_3 (dk_at dksJ4_comparableClassFor_4 5 rfl rfl)
theorem dJ4_comparableClassFor_100 : decode cJ4_comparableClassFor 100 = .ok (.aaload, 1) := dk_50 (dk_at dksJ4_comparableClassFor_4 6 rfl rfl)
theorem dJ4_comparableClassFor_101 : decode cJ4_comparableClassFor 101 = .ok (.aload_n 1, 1) := dk_43 (dk_at dksJ4_comparableClassFor_4 7 rfl rfl)
theorem dJ4_comparableClassFor_102 : decode cJ4_comparableClassFor 102 = .ok (.if_acmp .ne 5, 3) := dk_166 0 5 (dk_at dksJ4_comparableClassFor_4 8 rfl rfl)
theorem dJ4_comparableClassFor_105 : decode cJ4_comparableClassFor 105 = .ok (.aload_n 1, 1) := dk_43 (dk_at dksJ4_comparableClassFor_4 11 rfl rfl)
theorem dJ4_comparableClassFor_106 : decode cJ4_comparableClassFor 106 = .ok (.areturn, 1) := dk_176 (dk_at dksJ4_comparableClassFor_4 12 rfl rfl)
theorem dJ4_comparableClassFor_107 : decode cJ4_comparableClassFor 107 = .ok (.iinc 7 1, 3) := dk_132 7 1 (dk_at dksJ4_comparableClassFor_4 13 rfl rfl)
theorem dJ4_comparableClassFor_110 : decode cJ4_comparableClassFor 110 = .ok (.goto (-70), 3) := dk_167 255 186 (dk_at dksJ4_comparableClassFor_4 16 rfl rfl)
theorem dJ4_comparableClassFor_113 : decode cJ4_comparableClassFor 113 = .ok (.aconst_null, 1) := dk_1 (dk_at dksJ4_comparableClassFor_4 19 rfl rfl)
theorem dJ4_comparableClassFor_114 : decode cJ4_comparableClassFor 114 = .ok (.areturn, 1) := dk_176 (dk_at dksJ4_comparableClassFor_4 20 rfl rfl)
abbrev iJ4_comparableClassFor : xM := (yJ4_comparableClassFor, cJ4_comparableClassFor, 9, (some (.object "java/lang/Class")), [])
theorem mJ4_comparableClassFor : xOkM iJ4_comparableClassFor := ⟨by decide +kernel, by decide, q1550, q137⟩
abbrev cJ4_compareComparables : ByteArray := prog_60_method_3_code
def yJ4_compareComparables : MethodName := ⟨RJ4, "compareComparables", "(Ljava/lang/Class;Ljava/lang/Object;Ljava/lang/Object;)I"⟩
def dkwJ4_compareComparables_1 : List UInt8 := [185, 0, 30, 2, 0, 172]
abbrev dktJ4_compareComparables_1 : List UInt8 := dkwJ4_compareComparables_1 ++ []
def dkwJ4_compareComparables_0 : List UInt8 := [44, 198, 0, 11, 44, 182, 0, 9, 42, 165, 0, 7, 3, 167, 0, 13, 43, 192, 0, 7, 44]
abbrev dktJ4_compareComparables_0 : List UInt8 := dkwJ4_compareComparables_0 ++ dktJ4_compareComparables_1
theorem dksJ4_compareComparables_0 : cJ4_compareComparables.data.toList.drop 0 = dktJ4_compareComparables_0 := by decide +kernel
theorem dksJ4_compareComparables_1 : cJ4_compareComparables.data.toList.drop 21 = dktJ4_compareComparables_1 := dk_seg dksJ4_compareComparables_0 21 rfl rfl
theorem dJ4_compareComparables_0 : decode cJ4_compareComparables 0 = .ok (.aload_n 2, 1) := dk_44 (dk_at dksJ4_compareComparables_0 0 rfl rfl)
theorem dJ4_compareComparables_1 : decode cJ4_compareComparables 1 = .ok (.ifnull 11, 3) := dk_198 0 11 (dk_at dksJ4_compareComparables_0 1 rfl rfl)
theorem dJ4_compareComparables_4 : decode cJ4_compareComparables 4 = .ok (.aload_n 2, 1) := dk_44 (dk_at dksJ4_compareComparables_0 4 rfl rfl)
theorem dJ4_compareComparables_5 : decode cJ4_compareComparables 5 = .ok (.invokevirtual 9, 3) := dk_182 0 9 (dk_at dksJ4_compareComparables_0 5 rfl rfl)
theorem dJ4_compareComparables_8 : decode cJ4_compareComparables 8 = .ok (.aload_n 0, 1) := dk_42 (dk_at dksJ4_compareComparables_0 8 rfl rfl)
theorem dJ4_compareComparables_9 : decode cJ4_compareComparables 9 = .ok (.if_acmp .eq 7, 3) := dk_165 0 7 (dk_at dksJ4_compareComparables_0 9 rfl rfl)
theorem dJ4_compareComparables_12 : decode cJ4_compareComparables 12 = .ok (.iconst 0, 1) := dk_3 (dk_at dksJ4_compareComparables_0 12 rfl rfl)
theorem dJ4_compareComparables_13 : decode cJ4_compareComparables 13 = .ok (.goto 13, 3) := dk_167 0 13 (dk_at dksJ4_compareComparables_0 13 rfl rfl)
theorem dJ4_compareComparables_16 : decode cJ4_compareComparables 16 = .ok (.aload_n 1, 1) := dk_43 (dk_at dksJ4_compareComparables_0 16 rfl rfl)
theorem dJ4_compareComparables_17 : decode cJ4_compareComparables 17 = .ok (.checkcast 7, 3) := dk_192 0 7 (dk_at dksJ4_compareComparables_0 17 rfl rfl)
theorem dJ4_compareComparables_20 : decode cJ4_compareComparables 20 = .ok (.aload_n 2, 1) := dk_44 (dk_at dksJ4_compareComparables_0 20 rfl rfl)
theorem dJ4_compareComparables_21 : decode cJ4_compareComparables 21 = .ok (.invokeinterface 30 2, 5) := by decide +kernel
theorem dJ4_compareComparables_26 : decode cJ4_compareComparables 26 = .ok (.ireturn, 1) := dk_172 (dk_at dksJ4_compareComparables_1 5 rfl rfl)
abbrev iJ4_compareComparables : xM := (yJ4_compareComparables, cJ4_compareComparables, 3, (some .int), [])
theorem mJ4_compareComparables : xOkM iJ4_compareComparables := ⟨by decide +kernel, by decide, q1556, q137⟩
abbrev cJ4_treeifyBin : ByteArray := prog_60_method_18_code
def yJ4_treeifyBin : MethodName := ⟨RJ4, "treeifyBin", "([Ljava/util/HashMap$Node;I)V"⟩
def dkwJ4_treeifyBin_4 : List UInt8 := [21, 4, 25, 6, 91, 83, 198, 0, 9, 25, 6, 43, 182, 0, 224, 177]
abbrev dktJ4_treeifyBin_4 : List UInt8 := dkwJ4_treeifyBin_4 ++ []
def dkwJ4_treeifyBin_3 : List UInt8 := [25, 7, 25, 8, 181, 0, 223, 25, 8, 58, 7, 25, 5, 180, 0, 177, 89, 58, 5, 199, 255, 209, 43]
abbrev dktJ4_treeifyBin_3 : List UInt8 := dkwJ4_treeifyBin_3 ++ dktJ4_treeifyBin_4
def dkwJ4_treeifyBin_2 : List UInt8 := [182, 0, 215, 58, 8, 25, 7, 199, 0, 10, 25, 8, 58, 6, 167, 0, 17, 25, 8, 25, 7, 181, 0, 219]
abbrev dktJ4_treeifyBin_2 : List UInt8 := dkwJ4_treeifyBin_2 ++ dktJ4_treeifyBin_3
def dkwJ4_treeifyBin_1 : List UInt8 := [100, 28, 126, 89, 54, 4, 50, 89, 58, 5, 198, 0, 75, 1, 58, 6, 1, 58, 7, 42, 25, 5, 1]
abbrev dktJ4_treeifyBin_1 : List UInt8 := dkwJ4_treeifyBin_1 ++ dktJ4_treeifyBin_2
def dkwJ4_treeifyBin_0 : List UInt8 := [43, 198, 0, 12, 43, 190, 89, 62, 16, 64, 162, 0, 11, 42, 182, 0, 117, 87, 167, 0, 91, 43, 29, 4]
abbrev dktJ4_treeifyBin_0 : List UInt8 := dkwJ4_treeifyBin_0 ++ dktJ4_treeifyBin_1
theorem dksJ4_treeifyBin_0 : cJ4_treeifyBin.data.toList.drop 0 = dktJ4_treeifyBin_0 := by decide +kernel
theorem dksJ4_treeifyBin_1 : cJ4_treeifyBin.data.toList.drop 24 = dktJ4_treeifyBin_1 := dk_seg dksJ4_treeifyBin_0 24 rfl rfl
theorem dksJ4_treeifyBin_2 : cJ4_treeifyBin.data.toList.drop 47 = dktJ4_treeifyBin_2 := dk_seg dksJ4_treeifyBin_1 23 rfl rfl
theorem dksJ4_treeifyBin_3 : cJ4_treeifyBin.data.toList.drop 71 = dktJ4_treeifyBin_3 := dk_seg dksJ4_treeifyBin_2 24 rfl rfl
theorem dksJ4_treeifyBin_4 : cJ4_treeifyBin.data.toList.drop 94 = dktJ4_treeifyBin_4 := dk_seg dksJ4_treeifyBin_3 23 rfl rfl
theorem dJ4_treeifyBin_0 : decode cJ4_treeifyBin 0 = .ok (.aload_n 1, 1) := dk_43 (dk_at dksJ4_treeifyBin_0 0 rfl rfl)
theorem dJ4_treeifyBin_1 : decode cJ4_treeifyBin 1 = .ok (.ifnull 12, 3) := dk_198 0 12 (dk_at dksJ4_treeifyBin_0 1 rfl rfl)
theorem dJ4_treeifyBin_4 : decode cJ4_treeifyBin 4 = .ok (.aload_n 1, 1) := dk_43 (dk_at dksJ4_treeifyBin_0 4 rfl rfl)
theorem dJ4_treeifyBin_5 : decode cJ4_treeifyBin 5 = .ok (.arraylength, 1) := dk_190 (dk_at dksJ4_treeifyBin_0 5 rfl rfl)
theorem dJ4_treeifyBin_6 : decode cJ4_treeifyBin 6 = .ok (.dup, 1) := dk_89 (dk_at dksJ4_treeifyBin_0 6 rfl rfl)
theorem dJ4_treeifyBin_7 : decode cJ4_treeifyBin 7 = .ok (.istore_n 3, 1) := dk_62 (dk_at dksJ4_treeifyBin_0 7 rfl rfl)
theorem dJ4_treeifyBin_8 : decode cJ4_treeifyBin 8 = .ok (.bipush 64, 2) := dk_16 64 (dk_at dksJ4_treeifyBin_0 8 rfl rfl)
theorem dJ4_treeifyBin_10 : decode cJ4_treeifyBin 10 = .ok (.if_icmp .ge 11, 3) := dk_162 0 11 (dk_at dksJ4_treeifyBin_0 10 rfl rfl)
theorem dJ4_treeifyBin_13 : decode cJ4_treeifyBin 13 = .ok (.aload_n 0, 1) := dk_42 (dk_at dksJ4_treeifyBin_0 13 rfl rfl)
theorem dJ4_treeifyBin_14 : decode cJ4_treeifyBin 14 = .ok (.invokevirtual 117, 3) := dk_182 0 117 (dk_at dksJ4_treeifyBin_0 14 rfl rfl)
theorem dJ4_treeifyBin_17 : decode cJ4_treeifyBin 17 = .ok (.pop, 1) := dk_87 (dk_at dksJ4_treeifyBin_0 17 rfl rfl)
theorem dJ4_treeifyBin_18 : decode cJ4_treeifyBin 18 = .ok (.goto 91, 3) := dk_167 0 91 (dk_at dksJ4_treeifyBin_0 18 rfl rfl)
theorem dJ4_treeifyBin_21 : decode cJ4_treeifyBin 21 = .ok (.aload_n 1, 1) := dk_43 (dk_at dksJ4_treeifyBin_0 21 rfl rfl)
theorem dJ4_treeifyBin_22 : decode cJ4_treeifyBin 22 = .ok (.iload_n 3, 1) := dk_29 (dk_at dksJ4_treeifyBin_0 22 rfl rfl)
theorem dJ4_treeifyBin_23 : decode cJ4_treeifyBin 23 = .ok (.iconst 1, 1) := dk_4 (dk_at dksJ4_treeifyBin_0 23 rfl rfl)
theorem dJ4_treeifyBin_24 : decode cJ4_treeifyBin 24 = .ok (.isub, 1) := dk_100 (dk_at dksJ4_treeifyBin_1 0 rfl rfl)
theorem dJ4_treeifyBin_25 : decode cJ4_treeifyBin 25 = .ok (.iload_n 2, 1) := dk_28 (dk_at dksJ4_treeifyBin_1 1 rfl rfl)
theorem dJ4_treeifyBin_26 : decode cJ4_treeifyBin 26 = .ok (.iand, 1) := dk_126 (dk_at dksJ4_treeifyBin_1 2 rfl rfl)
theorem dJ4_treeifyBin_27 : decode cJ4_treeifyBin 27 = .ok (.dup, 1) := dk_89 (dk_at dksJ4_treeifyBin_1 3 rfl rfl)
theorem dJ4_treeifyBin_28 : decode cJ4_treeifyBin 28 = .ok (.istore 4, 2) := dk_54 4 (dk_at dksJ4_treeifyBin_1 4 rfl rfl)
theorem dJ4_treeifyBin_30 : decode cJ4_treeifyBin 30 = .ok (.aaload, 1) := dk_50 (dk_at dksJ4_treeifyBin_1 6 rfl rfl)
theorem dJ4_treeifyBin_31 : decode cJ4_treeifyBin 31 = .ok (.dup, 1) := dk_89 (dk_at dksJ4_treeifyBin_1 7 rfl rfl)
theorem dJ4_treeifyBin_32 : decode cJ4_treeifyBin 32 = .ok (.astore 5, 2) := dk_58 5 (dk_at dksJ4_treeifyBin_1 8 rfl rfl)
theorem dJ4_treeifyBin_34 : decode cJ4_treeifyBin 34 = .ok (.ifnull 75, 3) := dk_198 0 75 (dk_at dksJ4_treeifyBin_1 10 rfl rfl)
theorem dJ4_treeifyBin_37 : decode cJ4_treeifyBin 37 = .ok (.aconst_null, 1) := dk_1 (dk_at dksJ4_treeifyBin_1 13 rfl rfl)
theorem dJ4_treeifyBin_38 : decode cJ4_treeifyBin 38 = .ok (.astore 6, 2) := dk_58 6 (dk_at dksJ4_treeifyBin_1 14 rfl rfl)
theorem dJ4_treeifyBin_40 : decode cJ4_treeifyBin 40 = .ok (.aconst_null, 1) := dk_1 (dk_at dksJ4_treeifyBin_1 16 rfl rfl)
theorem dJ4_treeifyBin_41 : decode cJ4_treeifyBin 41 = .ok (.astore 7, 2) := dk_58 7 (dk_at dksJ4_treeifyBin_1 17 rfl rfl)
theorem dJ4_treeifyBin_43 : decode cJ4_treeifyBin 43 = .ok (.aload_n 0, 1) := dk_42 (dk_at dksJ4_treeifyBin_1 19 rfl rfl)
theorem dJ4_treeifyBin_44 : decode cJ4_treeifyBin 44 = .ok (.aload 5, 2) := dk_25 5 (dk_at dksJ4_treeifyBin_1 20 rfl rfl)
theorem dJ4_treeifyBin_46 : decode cJ4_treeifyBin 46 = .ok (.aconst_null, 1) := dk_1 (dk_at dksJ4_treeifyBin_1 22 rfl rfl)
theorem dJ4_treeifyBin_47 : decode cJ4_treeifyBin 47 = .ok (.invokevirtual 215, 3) := dk_182 0 215 (dk_at dksJ4_treeifyBin_2 0 rfl rfl)
theorem dJ4_treeifyBin_50 : decode cJ4_treeifyBin 50 = .ok (.astore 8, 2) := dk_58 8 (dk_at dksJ4_treeifyBin_2 3 rfl rfl)
theorem dJ4_treeifyBin_52 : decode cJ4_treeifyBin 52 = .ok (.aload 7, 2) := dk_25 7 (dk_at dksJ4_treeifyBin_2 5 rfl rfl)
theorem dJ4_treeifyBin_54 : decode cJ4_treeifyBin 54 = .ok (.ifnonnull 10, 3) := dk_199 0 10 (dk_at dksJ4_treeifyBin_2 7 rfl rfl)
theorem dJ4_treeifyBin_57 : decode cJ4_treeifyBin 57 = .ok (.aload 8, 2) := dk_25 8 (dk_at dksJ4_treeifyBin_2 10 rfl rfl)
theorem dJ4_treeifyBin_59 : decode cJ4_treeifyBin 59 = .ok (.astore 6, 2) := dk_58 6 (dk_at dksJ4_treeifyBin_2 12 rfl rfl)
theorem dJ4_treeifyBin_61 : decode cJ4_treeifyBin 61 = .ok (.goto 17, 3) := dk_167 0 17 (dk_at dksJ4_treeifyBin_2 14 rfl rfl)
theorem dJ4_treeifyBin_64 : decode cJ4_treeifyBin 64 = .ok (.aload 8, 2) := dk_25 8 (dk_at dksJ4_treeifyBin_2 17 rfl rfl)
theorem dJ4_treeifyBin_66 : decode cJ4_treeifyBin 66 = .ok (.aload 7, 2) := dk_25 7 (dk_at dksJ4_treeifyBin_2 19 rfl rfl)
theorem dJ4_treeifyBin_68 : decode cJ4_treeifyBin 68 = .ok (.putfield 219, 3) := dk_181 0 219 (dk_at dksJ4_treeifyBin_2 21 rfl rfl)
theorem dJ4_treeifyBin_71 : decode cJ4_treeifyBin 71 = .ok (.aload 7, 2) := dk_25 7 (dk_at dksJ4_treeifyBin_3 0 rfl rfl)
theorem dJ4_treeifyBin_73 : decode cJ4_treeifyBin 73 = .ok (.aload 8, 2) := dk_25 8 (dk_at dksJ4_treeifyBin_3 2 rfl rfl)
theorem dJ4_treeifyBin_75 : decode cJ4_treeifyBin 75 = .ok (.putfield 223, 3) := dk_181 0 223 (dk_at dksJ4_treeifyBin_3 4 rfl rfl)
theorem dJ4_treeifyBin_78 : decode cJ4_treeifyBin 78 = .ok (.aload 8, 2) := dk_25 8 (dk_at dksJ4_treeifyBin_3 7 rfl rfl)
theorem dJ4_treeifyBin_80 : decode cJ4_treeifyBin 80 = .ok (.astore 7, 2) := dk_58 7 (dk_at dksJ4_treeifyBin_3 9 rfl rfl)
theorem dJ4_treeifyBin_82 : decode cJ4_treeifyBin 82 = .ok (.aload 5, 2) := dk_25 5 (dk_at dksJ4_treeifyBin_3 11 rfl rfl)
theorem dJ4_treeifyBin_84 : decode cJ4_treeifyBin 84 = .ok (.getfield 177, 3) := dk_180 0 177 (dk_at dksJ4_treeifyBin_3 13 rfl rfl)
theorem dJ4_treeifyBin_87 : decode cJ4_treeifyBin 87 = .ok (.dup, 1) := dk_89 (dk_at dksJ4_treeifyBin_3 16 rfl rfl)
theorem dJ4_treeifyBin_88 : decode cJ4_treeifyBin 88 = .ok (.astore 5, 2) := dk_58 5 (dk_at dksJ4_treeifyBin_3 17 rfl rfl)
theorem dJ4_treeifyBin_90 : decode cJ4_treeifyBin 90 = .ok (.ifnonnull (-47), 3) := dk_199 255 209 (dk_at dksJ4_treeifyBin_3 19 rfl rfl)
theorem dJ4_treeifyBin_93 : decode cJ4_treeifyBin 93 = .ok (.aload_n 1, 1) := dk_43 (dk_at dksJ4_treeifyBin_3 22 rfl rfl)
theorem dJ4_treeifyBin_94 : decode cJ4_treeifyBin 94 = .ok (.iload 4, 2) := dk_21 4 (dk_at dksJ4_treeifyBin_4 0 rfl rfl)
theorem dJ4_treeifyBin_96 : decode cJ4_treeifyBin 96 = .ok (.aload 6, 2) := dk_25 6 (dk_at dksJ4_treeifyBin_4 2 rfl rfl)
theorem dJ4_treeifyBin_98 : decode cJ4_treeifyBin 98 = .ok (.dup_x2, 1) := dk_91 (dk_at dksJ4_treeifyBin_4 4 rfl rfl)
theorem dJ4_treeifyBin_99 : decode cJ4_treeifyBin 99 = .ok (.aastore, 1) := dk_83 (dk_at dksJ4_treeifyBin_4 5 rfl rfl)
theorem dJ4_treeifyBin_100 : decode cJ4_treeifyBin 100 = .ok (.ifnull 9, 3) := dk_198 0 9 (dk_at dksJ4_treeifyBin_4 6 rfl rfl)
theorem dJ4_treeifyBin_103 : decode cJ4_treeifyBin 103 = .ok (.aload 6, 2) := dk_25 6 (dk_at dksJ4_treeifyBin_4 9 rfl rfl)
theorem dJ4_treeifyBin_105 : decode cJ4_treeifyBin 105 = .ok (.aload_n 1, 1) := dk_43 (dk_at dksJ4_treeifyBin_4 11 rfl rfl)
theorem dJ4_treeifyBin_106 : decode cJ4_treeifyBin 106 = .ok (.invokevirtual 224, 3) := dk_182 0 224 (dk_at dksJ4_treeifyBin_4 12 rfl rfl)
theorem dJ4_treeifyBin_109 : decode cJ4_treeifyBin 109 = .ok (.return_, 1) := dk_177 (dk_at dksJ4_treeifyBin_4 15 rfl rfl)
abbrev iJ4_treeifyBin : xM := (yJ4_treeifyBin, cJ4_treeifyBin, 9, none, [])
theorem mJ4_treeifyBin : xOkM iJ4_treeifyBin := ⟨by decide +kernel, by decide, q1892, q137⟩
abbrev cJ4_clear : ByteArray := prog_60_method_22_code
def yJ4_clear : MethodName := ⟨RJ4, "clear", "()V"⟩
def dkwJ4_clear_2 : List UInt8 := [167, 255, 243, 177]
abbrev dktJ4_clear_2 : List UInt8 := dkwJ4_clear_2 ++ []
def dkwJ4_clear_1 : List UInt8 := [158, 0, 26, 42, 3, 181, 0, 156, 3, 61, 28, 43, 190, 162, 0, 13, 43, 28, 1, 83, 132, 2, 1]
abbrev dktJ4_clear_1 : List UInt8 := dkwJ4_clear_1 ++ dktJ4_clear_2
def dkwJ4_clear_0 : List UInt8 := [42, 89, 180, 0, 202, 4, 96, 181, 0, 202, 42, 180, 0, 105, 89, 76, 198, 0, 33, 42, 180, 0, 156]
abbrev dktJ4_clear_0 : List UInt8 := dkwJ4_clear_0 ++ dktJ4_clear_1
theorem dksJ4_clear_0 : cJ4_clear.data.toList.drop 0 = dktJ4_clear_0 := by decide +kernel
theorem dksJ4_clear_1 : cJ4_clear.data.toList.drop 23 = dktJ4_clear_1 := dk_seg dksJ4_clear_0 23 rfl rfl
theorem dksJ4_clear_2 : cJ4_clear.data.toList.drop 46 = dktJ4_clear_2 := dk_seg dksJ4_clear_1 23 rfl rfl
theorem dJ4_clear_0 : decode cJ4_clear 0 = .ok (.aload_n 0, 1) := dk_42 (dk_at dksJ4_clear_0 0 rfl rfl)
theorem dJ4_clear_1 : decode cJ4_clear 1 = .ok (.dup, 1) := dk_89 (dk_at dksJ4_clear_0 1 rfl rfl)
theorem dJ4_clear_2 : decode cJ4_clear 2 = .ok (.getfield 202, 3) := dk_180 0 202 (dk_at dksJ4_clear_0 2 rfl rfl)
theorem dJ4_clear_5 : decode cJ4_clear 5 = .ok (.iconst 1, 1) := dk_4 (dk_at dksJ4_clear_0 5 rfl rfl)
theorem dJ4_clear_6 : decode cJ4_clear 6 = .ok (.iadd, 1) := dk_96 (dk_at dksJ4_clear_0 6 rfl rfl)
theorem dJ4_clear_7 : decode cJ4_clear 7 = .ok (.putfield 202, 3) := dk_181 0 202 (dk_at dksJ4_clear_0 7 rfl rfl)
theorem dJ4_clear_10 : decode cJ4_clear 10 = .ok (.aload_n 0, 1) := dk_42 (dk_at dksJ4_clear_0 10 rfl rfl)
theorem dJ4_clear_11 : decode cJ4_clear 11 = .ok (.getfield 105, 3) := dk_180 0 105 (dk_at dksJ4_clear_0 11 rfl rfl)
theorem dJ4_clear_14 : decode cJ4_clear 14 = .ok (.dup, 1) := dk_89 (dk_at dksJ4_clear_0 14 rfl rfl)
theorem dJ4_clear_15 : decode cJ4_clear 15 = .ok (.astore_n 1, 1) := dk_76 (dk_at dksJ4_clear_0 15 rfl rfl)
theorem dJ4_clear_16 : decode cJ4_clear 16 = .ok (.ifnull 33, 3) := dk_198 0 33 (dk_at dksJ4_clear_0 16 rfl rfl)
theorem dJ4_clear_19 : decode cJ4_clear 19 = .ok (.aload_n 0, 1) := dk_42 (dk_at dksJ4_clear_0 19 rfl rfl)
theorem dJ4_clear_20 : decode cJ4_clear 20 = .ok (.getfield 156, 3) := dk_180 0 156 (dk_at dksJ4_clear_0 20 rfl rfl)
theorem dJ4_clear_23 : decode cJ4_clear 23 = .ok (.ifCond .le 26, 3) := dk_158 0 26 (dk_at dksJ4_clear_1 0 rfl rfl)
theorem dJ4_clear_26 : decode cJ4_clear 26 = .ok (.aload_n 0, 1) := dk_42 (dk_at dksJ4_clear_1 3 rfl rfl)
theorem dJ4_clear_27 : decode cJ4_clear 27 = .ok (.iconst 0, 1) := dk_3 (dk_at dksJ4_clear_1 4 rfl rfl)
theorem dJ4_clear_28 : decode cJ4_clear 28 = .ok (.putfield 156, 3) := dk_181 0 156 (dk_at dksJ4_clear_1 5 rfl rfl)
theorem dJ4_clear_31 : decode cJ4_clear 31 = .ok (.iconst 0, 1) := dk_3 (dk_at dksJ4_clear_1 8 rfl rfl)
theorem dJ4_clear_32 : decode cJ4_clear 32 = .ok (.istore_n 2, 1) := dk_61 (dk_at dksJ4_clear_1 9 rfl rfl)
theorem dJ4_clear_33 : decode cJ4_clear 33 = .ok (.iload_n 2, 1) := dk_28 (dk_at dksJ4_clear_1 10 rfl rfl)
theorem dJ4_clear_34 : decode cJ4_clear 34 = .ok (.aload_n 1, 1) := dk_43 (dk_at dksJ4_clear_1 11 rfl rfl)
theorem dJ4_clear_35 : decode cJ4_clear 35 = .ok (.arraylength, 1) := dk_190 (dk_at dksJ4_clear_1 12 rfl rfl)
theorem dJ4_clear_36 : decode cJ4_clear 36 = .ok (.if_icmp .ge 13, 3) := dk_162 0 13 (dk_at dksJ4_clear_1 13 rfl rfl)
theorem dJ4_clear_39 : decode cJ4_clear 39 = .ok (.aload_n 1, 1) := dk_43 (dk_at dksJ4_clear_1 16 rfl rfl)
theorem dJ4_clear_40 : decode cJ4_clear 40 = .ok (.iload_n 2, 1) := dk_28 (dk_at dksJ4_clear_1 17 rfl rfl)
theorem dJ4_clear_41 : decode cJ4_clear 41 = .ok (.aconst_null, 1) := dk_1 (dk_at dksJ4_clear_1 18 rfl rfl)
theorem dJ4_clear_42 : decode cJ4_clear 42 = .ok (.aastore, 1) := dk_83 (dk_at dksJ4_clear_1 19 rfl rfl)
theorem dJ4_clear_43 : decode cJ4_clear 43 = .ok (.iinc 2 1, 3) := dk_132 2 1 (dk_at dksJ4_clear_1 20 rfl rfl)
theorem dJ4_clear_46 : decode cJ4_clear 46 = .ok (.goto (-13), 3) := dk_167 255 243 (dk_at dksJ4_clear_2 0 rfl rfl)
theorem dJ4_clear_49 : decode cJ4_clear 49 = .ok (.return_, 1) := dk_177 (dk_at dksJ4_clear_2 3 rfl rfl)
abbrev iJ4_clear : xM := (yJ4_clear, cJ4_clear, 3, none, [])
theorem mJ4_clear : xOkM iJ4_clear := ⟨by decide +kernel, by decide, q2657, q137⟩
abbrev cJ4_getNode : ByteArray := prog_60_method_13_code
def yJ4_getNode : MethodName := ⟨RJ4, "getNode", "(Ljava/lang/Object;)Ljava/util/HashMap$Node;"⟩
def dkwJ4_getNode_6 : List UInt8 := [89, 58, 4, 199, 255, 210, 1, 176]
abbrev dktJ4_getNode_6 : List UInt8 := dkwJ4_getNode_6 ++ []
def dkwJ4_getNode_5 : List UInt8 := [165, 0, 16, 43, 198, 0, 15, 43, 25, 7, 182, 0, 173, 153, 0, 6, 25, 4, 176, 25, 4, 180, 0, 177]
abbrev dktJ4_getNode_5 : List UInt8 := dkwJ4_getNode_5 ++ dktJ4_getNode_6
def dkwJ4_getNode_4 : List UInt8 := [43, 182, 0, 182, 176, 25, 4, 180, 0, 168, 21, 6, 160, 0, 31, 25, 4, 180, 0, 170, 89, 58, 7, 43]
abbrev dktJ4_getNode_4 : List UInt8 := dkwJ4_getNode_4 ++ dktJ4_getNode_5
def dkwJ4_getNode_3 : List UInt8 := [176, 45, 180, 0, 177, 89, 58, 4, 198, 0, 70, 45, 193, 0, 180, 153, 0, 14, 45, 192, 0, 180, 21, 6]
abbrev dktJ4_getNode_3 : List UInt8 := dkwJ4_getNode_3 ++ dktJ4_getNode_4
def dkwJ4_getNode_2 : List UInt8 := [180, 0, 170, 89, 58, 7, 43, 165, 0, 16, 43, 198, 0, 14, 43, 25, 7, 182, 0, 173, 153, 0, 5, 45]
abbrev dktJ4_getNode_2 : List UInt8 := dkwJ4_getNode_2 ++ dktJ4_getNode_3
def dkwJ4_getNode_1 : List UInt8 := [184, 0, 149, 89, 54, 6, 126, 50, 89, 78, 198, 0, 115, 45, 180, 0, 168, 21, 6, 160, 0, 29, 45]
abbrev dktJ4_getNode_1 : List UInt8 := dkwJ4_getNode_1 ++ dktJ4_getNode_2
def dkwJ4_getNode_0 : List UInt8 := [42, 180, 0, 105, 89, 77, 198, 0, 142, 44, 190, 89, 54, 5, 158, 0, 134, 44, 21, 5, 4, 100, 43]
abbrev dktJ4_getNode_0 : List UInt8 := dkwJ4_getNode_0 ++ dktJ4_getNode_1
theorem dksJ4_getNode_0 : cJ4_getNode.data.toList.drop 0 = dktJ4_getNode_0 := by decide +kernel
theorem dksJ4_getNode_1 : cJ4_getNode.data.toList.drop 23 = dktJ4_getNode_1 := dk_seg dksJ4_getNode_0 23 rfl rfl
theorem dksJ4_getNode_2 : cJ4_getNode.data.toList.drop 46 = dktJ4_getNode_2 := dk_seg dksJ4_getNode_1 23 rfl rfl
theorem dksJ4_getNode_3 : cJ4_getNode.data.toList.drop 70 = dktJ4_getNode_3 := dk_seg dksJ4_getNode_2 24 rfl rfl
theorem dksJ4_getNode_4 : cJ4_getNode.data.toList.drop 94 = dktJ4_getNode_4 := dk_seg dksJ4_getNode_3 24 rfl rfl
theorem dksJ4_getNode_5 : cJ4_getNode.data.toList.drop 118 = dktJ4_getNode_5 := dk_seg dksJ4_getNode_4 24 rfl rfl
theorem dksJ4_getNode_6 : cJ4_getNode.data.toList.drop 142 = dktJ4_getNode_6 := dk_seg dksJ4_getNode_5 24 rfl rfl
theorem dJ4_getNode_0 : decode cJ4_getNode 0 = .ok (.aload_n 0, 1) := dk_42 (dk_at dksJ4_getNode_0 0 rfl rfl)
theorem dJ4_getNode_1 : decode cJ4_getNode 1 = .ok (.getfield 105, 3) := dk_180 0 105 (dk_at dksJ4_getNode_0 1 rfl rfl)
theorem dJ4_getNode_4 : decode cJ4_getNode 4 = .ok (.dup, 1) := dk_89 (dk_at dksJ4_getNode_0 4 rfl rfl)
theorem dJ4_getNode_5 : decode cJ4_getNode 5 = .ok (.astore_n 2, 1) := dk_77 (dk_at dksJ4_getNode_0 5 rfl rfl)
theorem dJ4_getNode_6 : decode cJ4_getNode 6 = .ok (.ifnull 142, 3) := dk_198 0 142 (dk_at dksJ4_getNode_0 6 rfl rfl)
theorem dJ4_getNode_9 : decode cJ4_getNode 9 = .ok (.aload_n 2, 1) := dk_44 (dk_at dksJ4_getNode_0 9 rfl rfl)
theorem dJ4_getNode_10 : decode cJ4_getNode 10 = .ok (.arraylength, 1) := dk_190 (dk_at dksJ4_getNode_0 10 rfl rfl)
theorem dJ4_getNode_11 : decode cJ4_getNode 11 = .ok (.dup, 1) := dk_89 (dk_at dksJ4_getNode_0 11 rfl rfl)
theorem dJ4_getNode_12 : decode cJ4_getNode 12 = .ok (.istore 5, 2) := dk_54 5 (dk_at dksJ4_getNode_0 12 rfl rfl)
theorem dJ4_getNode_14 : decode cJ4_getNode 14 = .ok (.ifCond .le 134, 3) := dk_158 0 134 (dk_at dksJ4_getNode_0 14 rfl rfl)
theorem dJ4_getNode_17 : decode cJ4_getNode 17 = .ok (.aload_n 2, 1) := dk_44 (dk_at dksJ4_getNode_0 17 rfl rfl)
theorem dJ4_getNode_18 : decode cJ4_getNode 18 = .ok (.iload 5, 2) := dk_21 5 (dk_at dksJ4_getNode_0 18 rfl rfl)
theorem dJ4_getNode_20 : decode cJ4_getNode 20 = .ok (.iconst 1, 1) := dk_4 (dk_at dksJ4_getNode_0 20 rfl rfl)
theorem dJ4_getNode_21 : decode cJ4_getNode 21 = .ok (.isub, 1) := dk_100 (dk_at dksJ4_getNode_0 21 rfl rfl)
theorem dJ4_getNode_22 : decode cJ4_getNode 22 = .ok (.aload_n 1, 1) := dk_43 (dk_at dksJ4_getNode_0 22 rfl rfl)
theorem dJ4_getNode_23 : decode cJ4_getNode 23 = .ok (.invokestatic 149, 3) := dk_184 0 149 (dk_at dksJ4_getNode_1 0 rfl rfl)
theorem dJ4_getNode_26 : decode cJ4_getNode 26 = .ok (.dup, 1) := dk_89 (dk_at dksJ4_getNode_1 3 rfl rfl)
theorem dJ4_getNode_27 : decode cJ4_getNode 27 = .ok (.istore 6, 2) := dk_54 6 (dk_at dksJ4_getNode_1 4 rfl rfl)
theorem dJ4_getNode_29 : decode cJ4_getNode 29 = .ok (.iand, 1) := dk_126 (dk_at dksJ4_getNode_1 6 rfl rfl)
theorem dJ4_getNode_30 : decode cJ4_getNode 30 = .ok (.aaload, 1) := dk_50 (dk_at dksJ4_getNode_1 7 rfl rfl)
theorem dJ4_getNode_31 : decode cJ4_getNode 31 = .ok (.dup, 1) := dk_89 (dk_at dksJ4_getNode_1 8 rfl rfl)
theorem dJ4_getNode_32 : decode cJ4_getNode 32 = .ok (.astore_n 3, 1) := dk_78 (dk_at dksJ4_getNode_1 9 rfl rfl)
theorem dJ4_getNode_33 : decode cJ4_getNode 33 = .ok (.ifnull 115, 3) := dk_198 0 115 (dk_at dksJ4_getNode_1 10 rfl rfl)
theorem dJ4_getNode_36 : decode cJ4_getNode 36 = .ok (.aload_n 3, 1) := dk_45 (dk_at dksJ4_getNode_1 13 rfl rfl)
theorem dJ4_getNode_37 : decode cJ4_getNode 37 = .ok (.getfield 168, 3) := dk_180 0 168 (dk_at dksJ4_getNode_1 14 rfl rfl)
theorem dJ4_getNode_40 : decode cJ4_getNode 40 = .ok (.iload 6, 2) := dk_21 6 (dk_at dksJ4_getNode_1 17 rfl rfl)
theorem dJ4_getNode_42 : decode cJ4_getNode 42 = .ok (.if_icmp .ne 29, 3) := dk_160 0 29 (dk_at dksJ4_getNode_1 19 rfl rfl)
theorem dJ4_getNode_45 : decode cJ4_getNode 45 = .ok (.aload_n 3, 1) := dk_45 (dk_at dksJ4_getNode_1 22 rfl rfl)
theorem dJ4_getNode_46 : decode cJ4_getNode 46 = .ok (.getfield 170, 3) := dk_180 0 170 (dk_at dksJ4_getNode_2 0 rfl rfl)
theorem dJ4_getNode_49 : decode cJ4_getNode 49 = .ok (.dup, 1) := dk_89 (dk_at dksJ4_getNode_2 3 rfl rfl)
theorem dJ4_getNode_50 : decode cJ4_getNode 50 = .ok (.astore 7, 2) := dk_58 7 (dk_at dksJ4_getNode_2 4 rfl rfl)
theorem dJ4_getNode_52 : decode cJ4_getNode 52 = .ok (.aload_n 1, 1) := dk_43 (dk_at dksJ4_getNode_2 6 rfl rfl)
theorem dJ4_getNode_53 : decode cJ4_getNode 53 = .ok (.if_acmp .eq 16, 3) := dk_165 0 16 (dk_at dksJ4_getNode_2 7 rfl rfl)
theorem dJ4_getNode_56 : decode cJ4_getNode 56 = .ok (.aload_n 1, 1) := dk_43 (dk_at dksJ4_getNode_2 10 rfl rfl)
theorem dJ4_getNode_57 : decode cJ4_getNode 57 = .ok (.ifnull 14, 3) := dk_198 0 14 (dk_at dksJ4_getNode_2 11 rfl rfl)
theorem dJ4_getNode_60 : decode cJ4_getNode 60 = .ok (.aload_n 1, 1) := dk_43 (dk_at dksJ4_getNode_2 14 rfl rfl)
theorem dJ4_getNode_61 : decode cJ4_getNode 61 = .ok (.aload 7, 2) := dk_25 7 (dk_at dksJ4_getNode_2 15 rfl rfl)
theorem dJ4_getNode_63 : decode cJ4_getNode 63 = .ok (.invokevirtual 173, 3) := dk_182 0 173 (dk_at dksJ4_getNode_2 17 rfl rfl)
theorem dJ4_getNode_66 : decode cJ4_getNode 66 = .ok (.ifCond .eq 5, 3) := dk_153 0 5 (dk_at dksJ4_getNode_2 20 rfl rfl)
theorem dJ4_getNode_69 : decode cJ4_getNode 69 = .ok (.aload_n 3, 1) := dk_45 (dk_at dksJ4_getNode_2 23 rfl rfl)
theorem dJ4_getNode_70 : decode cJ4_getNode 70 = .ok (.areturn, 1) := dk_176 (dk_at dksJ4_getNode_3 0 rfl rfl)
theorem dJ4_getNode_71 : decode cJ4_getNode 71 = .ok (.aload_n 3, 1) := dk_45 (dk_at dksJ4_getNode_3 1 rfl rfl)
theorem dJ4_getNode_72 : decode cJ4_getNode 72 = .ok (.getfield 177, 3) := dk_180 0 177 (dk_at dksJ4_getNode_3 2 rfl rfl)
theorem dJ4_getNode_75 : decode cJ4_getNode 75 = .ok (.dup, 1) := dk_89 (dk_at dksJ4_getNode_3 5 rfl rfl)
theorem dJ4_getNode_76 : decode cJ4_getNode 76 = .ok (.astore 4, 2) := dk_58 4 (dk_at dksJ4_getNode_3 6 rfl rfl)
theorem dJ4_getNode_78 : decode cJ4_getNode 78 = .ok (.ifnull 70, 3) := dk_198 0 70 (dk_at dksJ4_getNode_3 8 rfl rfl)
theorem dJ4_getNode_81 : decode cJ4_getNode 81 = .ok (.aload_n 3, 1) := dk_45 (dk_at dksJ4_getNode_3 11 rfl rfl)
theorem dJ4_getNode_82 : decode cJ4_getNode 82 = .ok (.instanceof 180, 3) := dk_193 0 180 (dk_at dksJ4_getNode_3 12 rfl rfl)
theorem dJ4_getNode_85 : decode cJ4_getNode 85 = .ok (.ifCond .eq 14, 3) := dk_153 0 14 (dk_at dksJ4_getNode_3 15 rfl rfl)
theorem dJ4_getNode_88 : decode cJ4_getNode 88 = .ok (.aload_n 3, 1) := dk_45 (dk_at dksJ4_getNode_3 18 rfl rfl)
theorem dJ4_getNode_89 : decode cJ4_getNode 89 = .ok (.checkcast 180, 3) := dk_192 0 180 (dk_at dksJ4_getNode_3 19 rfl rfl)
theorem dJ4_getNode_92 : decode cJ4_getNode 92 = .ok (.iload 6, 2) := dk_21 6 (dk_at dksJ4_getNode_3 22 rfl rfl)
theorem dJ4_getNode_94 : decode cJ4_getNode 94 = .ok (.aload_n 1, 1) := dk_43 (dk_at dksJ4_getNode_4 0 rfl rfl)
theorem dJ4_getNode_95 : decode cJ4_getNode 95 = .ok (.invokevirtual 182, 3) := dk_182 0 182 (dk_at dksJ4_getNode_4 1 rfl rfl)
theorem dJ4_getNode_98 : decode cJ4_getNode 98 = .ok (.areturn, 1) := dk_176 (dk_at dksJ4_getNode_4 4 rfl rfl)
theorem dJ4_getNode_99 : decode cJ4_getNode 99 = .ok (.aload 4, 2) := dk_25 4 (dk_at dksJ4_getNode_4 5 rfl rfl)
theorem dJ4_getNode_101 : decode cJ4_getNode 101 = .ok (.getfield 168, 3) := dk_180 0 168 (dk_at dksJ4_getNode_4 7 rfl rfl)
theorem dJ4_getNode_104 : decode cJ4_getNode 104 = .ok (.iload 6, 2) := dk_21 6 (dk_at dksJ4_getNode_4 10 rfl rfl)
theorem dJ4_getNode_106 : decode cJ4_getNode 106 = .ok (.if_icmp .ne 31, 3) := dk_160 0 31 (dk_at dksJ4_getNode_4 12 rfl rfl)
theorem dJ4_getNode_109 : decode cJ4_getNode 109 = .ok (.aload 4, 2) := dk_25 4 (dk_at dksJ4_getNode_4 15 rfl rfl)
theorem dJ4_getNode_111 : decode cJ4_getNode 111 = .ok (.getfield 170, 3) := dk_180 0 170 (dk_at dksJ4_getNode_4 17 rfl rfl)
theorem dJ4_getNode_114 : decode cJ4_getNode 114 = .ok (.dup, 1) := dk_89 (dk_at dksJ4_getNode_4 20 rfl rfl)
theorem dJ4_getNode_115 : decode cJ4_getNode 115 = .ok (.astore 7, 2) := dk_58 7 (dk_at dksJ4_getNode_4 21 rfl rfl)
theorem dJ4_getNode_117 : decode cJ4_getNode 117 = .ok (.aload_n 1, 1) := dk_43 (dk_at dksJ4_getNode_4 23 rfl rfl)
theorem dJ4_getNode_118 : decode cJ4_getNode 118 = .ok (.if_acmp .eq 16, 3) := dk_165 0 16 (dk_at dksJ4_getNode_5 0 rfl rfl)
theorem dJ4_getNode_121 : decode cJ4_getNode 121 = .ok (.aload_n 1, 1) := dk_43 (dk_at dksJ4_getNode_5 3 rfl rfl)
theorem dJ4_getNode_122 : decode cJ4_getNode 122 = .ok (.ifnull 15, 3) := dk_198 0 15 (dk_at dksJ4_getNode_5 4 rfl rfl)
theorem dJ4_getNode_125 : decode cJ4_getNode 125 = .ok (.aload_n 1, 1) := dk_43 (dk_at dksJ4_getNode_5 7 rfl rfl)
theorem dJ4_getNode_126 : decode cJ4_getNode 126 = .ok (.aload 7, 2) := dk_25 7 (dk_at dksJ4_getNode_5 8 rfl rfl)
theorem dJ4_getNode_128 : decode cJ4_getNode 128 = .ok (.invokevirtual 173, 3) := dk_182 0 173 (dk_at dksJ4_getNode_5 10 rfl rfl)
theorem dJ4_getNode_131 : decode cJ4_getNode 131 = .ok (.ifCond .eq 6, 3) := dk_153 0 6 (dk_at dksJ4_getNode_5 13 rfl rfl)
theorem dJ4_getNode_134 : decode cJ4_getNode 134 = .ok (.aload 4, 2) := dk_25 4 (dk_at dksJ4_getNode_5 16 rfl rfl)
theorem dJ4_getNode_136 : decode cJ4_getNode 136 = .ok (.areturn, 1) := dk_176 (dk_at dksJ4_getNode_5 18 rfl rfl)
theorem dJ4_getNode_137 : decode cJ4_getNode 137 = .ok (.aload 4, 2) := dk_25 4 (dk_at dksJ4_getNode_5 19 rfl rfl)
theorem dJ4_getNode_139 : decode cJ4_getNode 139 = .ok (.getfield 177, 3) := dk_180 0 177 (dk_at dksJ4_getNode_5 21 rfl rfl)
theorem dJ4_getNode_142 : decode cJ4_getNode 142 = .ok (.dup, 1) := dk_89 (dk_at dksJ4_getNode_6 0 rfl rfl)
theorem dJ4_getNode_143 : decode cJ4_getNode 143 = .ok (.astore 4, 2) := dk_58 4 (dk_at dksJ4_getNode_6 1 rfl rfl)
theorem dJ4_getNode_145 : decode cJ4_getNode 145 = .ok (.ifnonnull (-46), 3) := dk_199 255 210 (dk_at dksJ4_getNode_6 3 rfl rfl)
theorem dJ4_getNode_148 : decode cJ4_getNode 148 = .ok (.aconst_null, 1) := dk_1 (dk_at dksJ4_getNode_6 6 rfl rfl)
theorem dJ4_getNode_149 : decode cJ4_getNode 149 = .ok (.areturn, 1) := dk_176 (dk_at dksJ4_getNode_6 7 rfl rfl)
abbrev iJ4_getNode : xM := (yJ4_getNode, cJ4_getNode, 8, (some (.object "java/util/HashMap$Node")), [])
theorem mJ4_getNode : xOkM iJ4_getNode := ⟨by decide +kernel, by decide, q2680, q137⟩
abbrev cJ4_size : ByteArray := prog_60_method_10_code
def yJ4_size : MethodName := ⟨RJ4, "size", "()I"⟩
theorem dJ4_size_0 : decode cJ4_size 0 = .ok (.aload_n 0, 1) := by decide +kernel
theorem dJ4_size_1 : decode cJ4_size 1 = .ok (.getfield 156, 3) := by decide +kernel
theorem dJ4_size_4 : decode cJ4_size 4 = .ok (.ireturn, 1) := by decide +kernel
abbrev iJ4_size : xM := (yJ4_size, cJ4_size, 1, (some .int), [])
theorem mJ4_size : xOkM iJ4_size := ⟨by decide +kernel, by decide, q3078, q137⟩
abbrev cJ5_init : ByteArray := prog_68_method_16_code
def yJ5_init : MethodName := ⟨RJ5, "<init>", "()V"⟩
def dkwJ5_init_0 : List UInt8 := [42, 183, 0, 87, 42, 3, 181, 0, 1, 42, 3, 181, 0, 64, 177]
abbrev dktJ5_init_0 : List UInt8 := dkwJ5_init_0 ++ []
theorem dksJ5_init_0 : cJ5_init.data.toList.drop 0 = dktJ5_init_0 := by decide +kernel
theorem dJ5_init_0 : decode cJ5_init 0 = .ok (.aload_n 0, 1) := dk_42 (dk_at dksJ5_init_0 0 rfl rfl)
theorem dJ5_init_1 : decode cJ5_init 1 = .ok (.invokespecial 87, 3) := dk_183 0 87 (dk_at dksJ5_init_0 1 rfl rfl)
theorem dJ5_init_4 : decode cJ5_init 4 = .ok (.aload_n 0, 1) := dk_42 (dk_at dksJ5_init_0 4 rfl rfl)
theorem dJ5_init_5 : decode cJ5_init 5 = .ok (.iconst 0, 1) := dk_3 (dk_at dksJ5_init_0 5 rfl rfl)
theorem dJ5_init_6 : decode cJ5_init 6 = .ok (.putfield 1, 3) := dk_181 0 1 (dk_at dksJ5_init_0 6 rfl rfl)
theorem dJ5_init_9 : decode cJ5_init 9 = .ok (.aload_n 0, 1) := dk_42 (dk_at dksJ5_init_0 9 rfl rfl)
theorem dJ5_init_10 : decode cJ5_init 10 = .ok (.iconst 0, 1) := dk_3 (dk_at dksJ5_init_0 10 rfl rfl)
theorem dJ5_init_11 : decode cJ5_init 11 = .ok (.putfield 64, 3) := dk_181 0 64 (dk_at dksJ5_init_0 11 rfl rfl)
theorem dJ5_init_14 : decode cJ5_init 14 = .ok (.return_, 1) := dk_177 (dk_at dksJ5_init_0 14 rfl rfl)
abbrev iJ5_init : xM := (yJ5_init, cJ5_init, 1, none, [])
theorem mJ5_init : xOkM iJ5_init := ⟨by decide +kernel, by decide, q251, q138⟩
abbrev cJ5_init_2 : ByteArray := prog_68_method_14_code
def yJ5_init_2 : MethodName := ⟨RJ5, "<init>", "(IF)V"⟩
def dkwJ5_init_2_0 : List UInt8 := [42, 27, 36, 183, 0, 81, 42, 3, 181, 0, 1, 42, 3, 181, 0, 64, 177]
abbrev dktJ5_init_2_0 : List UInt8 := dkwJ5_init_2_0 ++ []
theorem dksJ5_init_2_0 : cJ5_init_2.data.toList.drop 0 = dktJ5_init_2_0 := by decide +kernel
theorem dJ5_init_2_0 : decode cJ5_init_2 0 = .ok (.aload_n 0, 1) := dk_42 (dk_at dksJ5_init_2_0 0 rfl rfl)
theorem dJ5_init_2_1 : decode cJ5_init_2 1 = .ok (.iload_n 1, 1) := dk_27 (dk_at dksJ5_init_2_0 1 rfl rfl)
theorem dJ5_init_2_2 : decode cJ5_init_2 2 = .ok (.fload_n 2, 1) := dk_36 (dk_at dksJ5_init_2_0 2 rfl rfl)
theorem dJ5_init_2_3 : decode cJ5_init_2 3 = .ok (.invokespecial 81, 3) := dk_183 0 81 (dk_at dksJ5_init_2_0 3 rfl rfl)
theorem dJ5_init_2_6 : decode cJ5_init_2 6 = .ok (.aload_n 0, 1) := dk_42 (dk_at dksJ5_init_2_0 6 rfl rfl)
theorem dJ5_init_2_7 : decode cJ5_init_2 7 = .ok (.iconst 0, 1) := dk_3 (dk_at dksJ5_init_2_0 7 rfl rfl)
theorem dJ5_init_2_8 : decode cJ5_init_2 8 = .ok (.putfield 1, 3) := dk_181 0 1 (dk_at dksJ5_init_2_0 8 rfl rfl)
theorem dJ5_init_2_11 : decode cJ5_init_2 11 = .ok (.aload_n 0, 1) := dk_42 (dk_at dksJ5_init_2_0 11 rfl rfl)
theorem dJ5_init_2_12 : decode cJ5_init_2 12 = .ok (.iconst 0, 1) := dk_3 (dk_at dksJ5_init_2_0 12 rfl rfl)
theorem dJ5_init_2_13 : decode cJ5_init_2 13 = .ok (.putfield 64, 3) := dk_181 0 64 (dk_at dksJ5_init_2_0 13 rfl rfl)
theorem dJ5_init_2_16 : decode cJ5_init_2 16 = .ok (.return_, 1) := dk_177 (dk_at dksJ5_init_2_0 16 rfl rfl)
abbrev iJ5_init_2 : xM := (yJ5_init_2, cJ5_init_2, 3, none, [])
theorem mJ5_init_2 : xOkM iJ5_init_2 := ⟨by decide +kernel, by decide, q326, q138⟩
abbrev cJ5_replacementNode : ByteArray := prog_68_method_5_code
def yJ5_replacementNode : MethodName := ⟨RJ5, "replacementNode", "(Ljava/util/HashMap$Node;Ljava/util/HashMap$Node;)Ljava/util/HashMap$Node;"⟩
def dkwJ5_replacementNode_1 : List UInt8 := [183, 0, 28, 58, 4, 42, 45, 25, 4, 182, 0, 46, 25, 4, 176]
abbrev dktJ5_replacementNode_1 : List UInt8 := dkwJ5_replacementNode_1 ++ []
def dkwJ5_replacementNode_0 : List UInt8 := [43, 192, 0, 15, 78, 187, 0, 15, 89, 45, 180, 0, 36, 45, 180, 0, 39, 45, 180, 0, 43, 44]
abbrev dktJ5_replacementNode_0 : List UInt8 := dkwJ5_replacementNode_0 ++ dktJ5_replacementNode_1
theorem dksJ5_replacementNode_0 : cJ5_replacementNode.data.toList.drop 0 = dktJ5_replacementNode_0 := by decide +kernel
theorem dksJ5_replacementNode_1 : cJ5_replacementNode.data.toList.drop 22 = dktJ5_replacementNode_1 := dk_seg dksJ5_replacementNode_0 22 rfl rfl
theorem dJ5_replacementNode_0 : decode cJ5_replacementNode 0 = .ok (.aload_n 1, 1) := dk_43 (dk_at dksJ5_replacementNode_0 0 rfl rfl)
theorem dJ5_replacementNode_1 : decode cJ5_replacementNode 1 = .ok (.checkcast 15, 3) := dk_192 0 15 (dk_at dksJ5_replacementNode_0 1 rfl rfl)
theorem dJ5_replacementNode_4 : decode cJ5_replacementNode 4 = .ok (.astore_n 3, 1) := dk_78 (dk_at dksJ5_replacementNode_0 4 rfl rfl)
theorem dJ5_replacementNode_5 : decode cJ5_replacementNode 5 = .ok (.new 15, 3) := dk_187 0 15 (dk_at dksJ5_replacementNode_0 5 rfl rfl)
theorem dJ5_replacementNode_8 : decode cJ5_replacementNode 8 = .ok (.dup, 1) := dk_89 (dk_at dksJ5_replacementNode_0 8 rfl rfl)
theorem dJ5_replacementNode_9 : decode cJ5_replacementNode 9 = .ok (.aload_n 3, 1) := dk_45 (dk_at dksJ5_replacementNode_0 9 rfl rfl)
theorem dJ5_replacementNode_10 : decode cJ5_replacementNode 10 = .ok (.getfield 36, 3) := dk_180 0 36 (dk_at dksJ5_replacementNode_0 10 rfl rfl)
theorem dJ5_replacementNode_13 : decode cJ5_replacementNode 13 = .ok (.aload_n 3, 1) := dk_45 (dk_at dksJ5_replacementNode_0 13 rfl rfl)
theorem dJ5_replacementNode_14 : decode cJ5_replacementNode 14 = .ok (.getfield 39, 3) := dk_180 0 39 (dk_at dksJ5_replacementNode_0 14 rfl rfl)
theorem dJ5_replacementNode_17 : decode cJ5_replacementNode 17 = .ok (.aload_n 3, 1) := dk_45 (dk_at dksJ5_replacementNode_0 17 rfl rfl)
theorem dJ5_replacementNode_18 : decode cJ5_replacementNode 18 = .ok (.getfield 43, 3) := dk_180 0 43 (dk_at dksJ5_replacementNode_0 18 rfl rfl)
theorem dJ5_replacementNode_21 : decode cJ5_replacementNode 21 = .ok (.aload_n 2, 1) := dk_44 (dk_at dksJ5_replacementNode_0 21 rfl rfl)
theorem dJ5_replacementNode_22 : decode cJ5_replacementNode 22 = .ok (.invokespecial 28, 3) := dk_183 0 28 (dk_at dksJ5_replacementNode_1 0 rfl rfl)
theorem dJ5_replacementNode_25 : decode cJ5_replacementNode 25 = .ok (.astore 4, 2) := dk_58 4 (dk_at dksJ5_replacementNode_1 3 rfl rfl)
theorem dJ5_replacementNode_27 : decode cJ5_replacementNode 27 = .ok (.aload_n 0, 1) := dk_42 (dk_at dksJ5_replacementNode_1 5 rfl rfl)
theorem dJ5_replacementNode_28 : decode cJ5_replacementNode 28 = .ok (.aload_n 3, 1) := dk_45 (dk_at dksJ5_replacementNode_1 6 rfl rfl)
theorem dJ5_replacementNode_29 : decode cJ5_replacementNode 29 = .ok (.aload 4, 2) := dk_25 4 (dk_at dksJ5_replacementNode_1 7 rfl rfl)
theorem dJ5_replacementNode_31 : decode cJ5_replacementNode 31 = .ok (.invokevirtual 46, 3) := dk_182 0 46 (dk_at dksJ5_replacementNode_1 9 rfl rfl)
theorem dJ5_replacementNode_34 : decode cJ5_replacementNode 34 = .ok (.aload 4, 2) := dk_25 4 (dk_at dksJ5_replacementNode_1 12 rfl rfl)
theorem dJ5_replacementNode_36 : decode cJ5_replacementNode 36 = .ok (.areturn, 1) := dk_176 (dk_at dksJ5_replacementNode_1 14 rfl rfl)
abbrev iJ5_replacementNode : xM := (yJ5_replacementNode, cJ5_replacementNode, 5, (some (.object "java/util/HashMap$Node")), [])
theorem mJ5_replacementNode : xOkM iJ5_replacementNode := ⟨by decide +kernel, by decide, q1486, q138⟩
abbrev cJ5_transferLinks : ByteArray := prog_68_method_2_code
def yJ5_transferLinks : MethodName := ⟨RJ5, "transferLinks", "(Ljava/util/LinkedHashMap$Entry;Ljava/util/LinkedHashMap$Entry;)V"⟩
def dkwJ5_transferLinks_2 : List UInt8 := [181, 0, 11, 167, 0, 9, 25, 4, 44, 181, 0, 19, 177]
abbrev dktJ5_transferLinks_2 : List UInt8 := dkwJ5_transferLinks_2 ++ []
def dkwJ5_transferLinks_1 : List UInt8 := [199, 0, 11, 42, 44, 181, 0, 7, 167, 0, 8, 45, 44, 181, 0, 14, 25, 4, 199, 0, 11, 42, 44]
abbrev dktJ5_transferLinks_1 : List UInt8 := dkwJ5_transferLinks_1 ++ dktJ5_transferLinks_2
def dkwJ5_transferLinks_0 : List UInt8 := [44, 43, 180, 0, 19, 90, 181, 0, 19, 78, 44, 43, 180, 0, 14, 90, 181, 0, 14, 58, 4, 45]
abbrev dktJ5_transferLinks_0 : List UInt8 := dkwJ5_transferLinks_0 ++ dktJ5_transferLinks_1
theorem dksJ5_transferLinks_0 : cJ5_transferLinks.data.toList.drop 0 = dktJ5_transferLinks_0 := by decide +kernel
theorem dksJ5_transferLinks_1 : cJ5_transferLinks.data.toList.drop 22 = dktJ5_transferLinks_1 := dk_seg dksJ5_transferLinks_0 22 rfl rfl
theorem dksJ5_transferLinks_2 : cJ5_transferLinks.data.toList.drop 45 = dktJ5_transferLinks_2 := dk_seg dksJ5_transferLinks_1 23 rfl rfl
theorem dJ5_transferLinks_0 : decode cJ5_transferLinks 0 = .ok (.aload_n 2, 1) := dk_44 (dk_at dksJ5_transferLinks_0 0 rfl rfl)
theorem dJ5_transferLinks_1 : decode cJ5_transferLinks 1 = .ok (.aload_n 1, 1) := dk_43 (dk_at dksJ5_transferLinks_0 1 rfl rfl)
theorem dJ5_transferLinks_2 : decode cJ5_transferLinks 2 = .ok (.getfield 19, 3) := dk_180 0 19 (dk_at dksJ5_transferLinks_0 2 rfl rfl)
theorem dJ5_transferLinks_5 : decode cJ5_transferLinks 5 = .ok (.dup_x1, 1) := dk_90 (dk_at dksJ5_transferLinks_0 5 rfl rfl)
theorem dJ5_transferLinks_6 : decode cJ5_transferLinks 6 = .ok (.putfield 19, 3) := dk_181 0 19 (dk_at dksJ5_transferLinks_0 6 rfl rfl)
theorem dJ5_transferLinks_9 : decode cJ5_transferLinks 9 = .ok (.astore_n 3, 1) := dk_78 (dk_at dksJ5_transferLinks_0 9 rfl rfl)
theorem dJ5_transferLinks_10 : decode cJ5_transferLinks 10 = .ok (.aload_n 2, 1) := dk_44 (dk_at dksJ5_transferLinks_0 10 rfl rfl)
theorem dJ5_transferLinks_11 : decode cJ5_transferLinks 11 = .ok (.aload_n 1, 1) := dk_43 (dk_at dksJ5_transferLinks_0 11 rfl rfl)
theorem dJ5_transferLinks_12 : decode cJ5_transferLinks 12 = .ok (.getfield 14, 3) := dk_180 0 14 (dk_at dksJ5_transferLinks_0 12 rfl rfl)
theorem dJ5_transferLinks_15 : decode cJ5_transferLinks 15 = .ok (.dup_x1, 1) := dk_90 (dk_at dksJ5_transferLinks_0 15 rfl rfl)
theorem dJ5_transferLinks_16 : decode cJ5_transferLinks 16 = .ok (.putfield 14, 3) := dk_181 0 14 (dk_at dksJ5_transferLinks_0 16 rfl rfl)
theorem dJ5_transferLinks_19 : decode cJ5_transferLinks 19 = .ok (.astore 4, 2) := dk_58 4 (dk_at dksJ5_transferLinks_0 19 rfl rfl)
theorem dJ5_transferLinks_21 : decode cJ5_transferLinks 21 = .ok (.aload_n 3, 1) := dk_45 (dk_at dksJ5_transferLinks_0 21 rfl rfl)
theorem dJ5_transferLinks_22 : decode cJ5_transferLinks 22 = .ok (.ifnonnull 11, 3) := dk_199 0 11 (dk_at dksJ5_transferLinks_1 0 rfl rfl)
theorem dJ5_transferLinks_25 : decode cJ5_transferLinks 25 = .ok (.aload_n 0, 1) := dk_42 (dk_at dksJ5_transferLinks_1 3 rfl rfl)
theorem dJ5_transferLinks_26 : decode cJ5_transferLinks 26 = .ok (.aload_n 2, 1) := dk_44 (dk_at dksJ5_transferLinks_1 4 rfl rfl)
theorem dJ5_transferLinks_27 : decode cJ5_transferLinks 27 = .ok (.putfield 7, 3) := dk_181 0 7 (dk_at dksJ5_transferLinks_1 5 rfl rfl)
theorem dJ5_transferLinks_30 : decode cJ5_transferLinks 30 = .ok (.goto 8, 3) := dk_167 0 8 (dk_at dksJ5_transferLinks_1 8 rfl rfl)
theorem dJ5_transferLinks_33 : decode cJ5_transferLinks 33 = .ok (.aload_n 3, 1) := dk_45 (dk_at dksJ5_transferLinks_1 11 rfl rfl)
theorem dJ5_transferLinks_34 : decode cJ5_transferLinks 34 = .ok (.aload_n 2, 1) := dk_44 (dk_at dksJ5_transferLinks_1 12 rfl rfl)
theorem dJ5_transferLinks_35 : decode cJ5_transferLinks 35 = .ok (.putfield 14, 3) := dk_181 0 14 (dk_at dksJ5_transferLinks_1 13 rfl rfl)
theorem dJ5_transferLinks_38 : decode cJ5_transferLinks 38 = .ok (.aload 4, 2) := dk_25 4 (dk_at dksJ5_transferLinks_1 16 rfl rfl)
theorem dJ5_transferLinks_40 : decode cJ5_transferLinks 40 = .ok (.ifnonnull 11, 3) := dk_199 0 11 (dk_at dksJ5_transferLinks_1 18 rfl rfl)
theorem dJ5_transferLinks_43 : decode cJ5_transferLinks 43 = .ok (.aload_n 0, 1) := dk_42 (dk_at dksJ5_transferLinks_1 21 rfl rfl)
theorem dJ5_transferLinks_44 : decode cJ5_transferLinks 44 = .ok (.aload_n 2, 1) := dk_44 (dk_at dksJ5_transferLinks_1 22 rfl rfl)
theorem dJ5_transferLinks_45 : decode cJ5_transferLinks 45 = .ok (.putfield 11, 3) := dk_181 0 11 (dk_at dksJ5_transferLinks_2 0 rfl rfl)
theorem dJ5_transferLinks_48 : decode cJ5_transferLinks 48 = .ok (.goto 9, 3) := dk_167 0 9 (dk_at dksJ5_transferLinks_2 3 rfl rfl)
theorem dJ5_transferLinks_51 : decode cJ5_transferLinks 51 = .ok (.aload 4, 2) := dk_25 4 (dk_at dksJ5_transferLinks_2 6 rfl rfl)
theorem dJ5_transferLinks_53 : decode cJ5_transferLinks 53 = .ok (.aload_n 2, 1) := dk_44 (dk_at dksJ5_transferLinks_2 8 rfl rfl)
theorem dJ5_transferLinks_54 : decode cJ5_transferLinks 54 = .ok (.putfield 19, 3) := dk_181 0 19 (dk_at dksJ5_transferLinks_2 9 rfl rfl)
theorem dJ5_transferLinks_57 : decode cJ5_transferLinks 57 = .ok (.return_, 1) := dk_177 (dk_at dksJ5_transferLinks_2 12 rfl rfl)
abbrev iJ5_transferLinks : xM := (yJ5_transferLinks, cJ5_transferLinks, 5, none, [])
theorem mJ5_transferLinks : xOkM iJ5_transferLinks := ⟨by decide +kernel, by decide, q1542, q138⟩
abbrev cJ5_newNode : ByteArray := prog_68_method_4_code
def yJ5_newNode : MethodName := ⟨RJ5, "newNode", "(ILjava/lang/Object;Ljava/lang/Object;Ljava/util/HashMap$Node;)Ljava/util/HashMap$Node;"⟩
def dkwJ5_newNode_0 : List UInt8 := [187, 0, 15, 89, 27, 44, 45, 25, 4, 183, 0, 28, 58, 5, 42, 25, 5, 182, 0, 32, 25, 5, 176]
abbrev dktJ5_newNode_0 : List UInt8 := dkwJ5_newNode_0 ++ []
theorem dksJ5_newNode_0 : cJ5_newNode.data.toList.drop 0 = dktJ5_newNode_0 := by decide +kernel
theorem dJ5_newNode_0 : decode cJ5_newNode 0 = .ok (.new 15, 3) := dk_187 0 15 (dk_at dksJ5_newNode_0 0 rfl rfl)
theorem dJ5_newNode_3 : decode cJ5_newNode 3 = .ok (.dup, 1) := dk_89 (dk_at dksJ5_newNode_0 3 rfl rfl)
theorem dJ5_newNode_4 : decode cJ5_newNode 4 = .ok (.iload_n 1, 1) := dk_27 (dk_at dksJ5_newNode_0 4 rfl rfl)
theorem dJ5_newNode_5 : decode cJ5_newNode 5 = .ok (.aload_n 2, 1) := dk_44 (dk_at dksJ5_newNode_0 5 rfl rfl)
theorem dJ5_newNode_6 : decode cJ5_newNode 6 = .ok (.aload_n 3, 1) := dk_45 (dk_at dksJ5_newNode_0 6 rfl rfl)
theorem dJ5_newNode_7 : decode cJ5_newNode 7 = .ok (.aload 4, 2) := dk_25 4 (dk_at dksJ5_newNode_0 7 rfl rfl)
theorem dJ5_newNode_9 : decode cJ5_newNode 9 = .ok (.invokespecial 28, 3) := dk_183 0 28 (dk_at dksJ5_newNode_0 9 rfl rfl)
theorem dJ5_newNode_12 : decode cJ5_newNode 12 = .ok (.astore 5, 2) := dk_58 5 (dk_at dksJ5_newNode_0 12 rfl rfl)
theorem dJ5_newNode_14 : decode cJ5_newNode 14 = .ok (.aload_n 0, 1) := dk_42 (dk_at dksJ5_newNode_0 14 rfl rfl)
theorem dJ5_newNode_15 : decode cJ5_newNode 15 = .ok (.aload 5, 2) := dk_25 5 (dk_at dksJ5_newNode_0 15 rfl rfl)
theorem dJ5_newNode_17 : decode cJ5_newNode 17 = .ok (.invokevirtual 32, 3) := dk_182 0 32 (dk_at dksJ5_newNode_0 17 rfl rfl)
theorem dJ5_newNode_20 : decode cJ5_newNode 20 = .ok (.aload 5, 2) := dk_25 5 (dk_at dksJ5_newNode_0 20 rfl rfl)
theorem dJ5_newNode_22 : decode cJ5_newNode 22 = .ok (.areturn, 1) := dk_176 (dk_at dksJ5_newNode_0 22 rfl rfl)
abbrev iJ5_newNode : xM := (yJ5_newNode, cJ5_newNode, 6, (some (.object "java/util/HashMap$Node")), [])
theorem mJ5_newNode : xOkM iJ5_newNode := ⟨by decide +kernel, by decide, q1788, q138⟩
abbrev cJ5_linkNodeAtEnd : ByteArray := prog_68_method_1_code
def yJ5_linkNodeAtEnd : MethodName := ⟨RJ5, "linkNodeAtEnd", "(Ljava/util/LinkedHashMap$Entry;)V"⟩
def dkwJ5_linkNodeAtEnd_3 : List UInt8 := [181, 0, 14, 177]
abbrev dktJ5_linkNodeAtEnd_3 : List UInt8 := dkwJ5_linkNodeAtEnd_3 ++ []
def dkwJ5_linkNodeAtEnd_2 : List UInt8 := [42, 43, 181, 0, 11, 44, 199, 0, 11, 42, 43, 181, 0, 7, 167, 0, 13, 43, 44, 181, 0, 19, 44, 43]
abbrev dktJ5_linkNodeAtEnd_2 : List UInt8 := dkwJ5_linkNodeAtEnd_2 ++ dktJ5_linkNodeAtEnd_3
def dkwJ5_linkNodeAtEnd_1 : List UInt8 := [181, 0, 11, 167, 0, 13, 43, 44, 181, 0, 14, 44, 43, 181, 0, 19, 167, 0, 35, 42, 180, 0, 11, 77]
abbrev dktJ5_linkNodeAtEnd_1 : List UInt8 := dkwJ5_linkNodeAtEnd_1 ++ dktJ5_linkNodeAtEnd_2
def dkwJ5_linkNodeAtEnd_0 : List UInt8 := [42, 180, 0, 1, 4, 160, 0, 38, 42, 180, 0, 7, 77, 42, 43, 181, 0, 7, 44, 199, 0, 11, 42, 43]
abbrev dktJ5_linkNodeAtEnd_0 : List UInt8 := dkwJ5_linkNodeAtEnd_0 ++ dktJ5_linkNodeAtEnd_1
theorem dksJ5_linkNodeAtEnd_0 : cJ5_linkNodeAtEnd.data.toList.drop 0 = dktJ5_linkNodeAtEnd_0 := by decide +kernel
theorem dksJ5_linkNodeAtEnd_1 : cJ5_linkNodeAtEnd.data.toList.drop 24 = dktJ5_linkNodeAtEnd_1 := dk_seg dksJ5_linkNodeAtEnd_0 24 rfl rfl
theorem dksJ5_linkNodeAtEnd_2 : cJ5_linkNodeAtEnd.data.toList.drop 48 = dktJ5_linkNodeAtEnd_2 := dk_seg dksJ5_linkNodeAtEnd_1 24 rfl rfl
theorem dksJ5_linkNodeAtEnd_3 : cJ5_linkNodeAtEnd.data.toList.drop 72 = dktJ5_linkNodeAtEnd_3 := dk_seg dksJ5_linkNodeAtEnd_2 24 rfl rfl
theorem dJ5_linkNodeAtEnd_0 : decode cJ5_linkNodeAtEnd 0 = .ok (.aload_n 0, 1) := dk_42 (dk_at dksJ5_linkNodeAtEnd_0 0 rfl rfl)
theorem dJ5_linkNodeAtEnd_1 : decode cJ5_linkNodeAtEnd 1 = .ok (.getfield 1, 3) := dk_180 0 1 (dk_at dksJ5_linkNodeAtEnd_0 1 rfl rfl)
theorem dJ5_linkNodeAtEnd_4 : decode cJ5_linkNodeAtEnd 4 = .ok (.iconst 1, 1) := dk_4 (dk_at dksJ5_linkNodeAtEnd_0 4 rfl rfl)
theorem dJ5_linkNodeAtEnd_5 : decode cJ5_linkNodeAtEnd 5 = .ok (.if_icmp .ne 38, 3) := dk_160 0 38 (dk_at dksJ5_linkNodeAtEnd_0 5 rfl rfl)
theorem dJ5_linkNodeAtEnd_8 : decode cJ5_linkNodeAtEnd 8 = .ok (.aload_n 0, 1) := dk_42 (dk_at dksJ5_linkNodeAtEnd_0 8 rfl rfl)
theorem dJ5_linkNodeAtEnd_9 : decode cJ5_linkNodeAtEnd 9 = .ok (.getfield 7, 3) := dk_180 0 7 (dk_at dksJ5_linkNodeAtEnd_0 9 rfl rfl)
theorem dJ5_linkNodeAtEnd_12 : decode cJ5_linkNodeAtEnd 12 = .ok (.astore_n 2, 1) := dk_77 (dk_at dksJ5_linkNodeAtEnd_0 12 rfl rfl)
theorem dJ5_linkNodeAtEnd_13 : decode cJ5_linkNodeAtEnd 13 = .ok (.aload_n 0, 1) := dk_42 (dk_at dksJ5_linkNodeAtEnd_0 13 rfl rfl)
theorem dJ5_linkNodeAtEnd_14 : decode cJ5_linkNodeAtEnd 14 = .ok (.aload_n 1, 1) := dk_43 (dk_at dksJ5_linkNodeAtEnd_0 14 rfl rfl)
theorem dJ5_linkNodeAtEnd_15 : decode cJ5_linkNodeAtEnd 15 = .ok (.putfield 7, 3) := dk_181 0 7 (dk_at dksJ5_linkNodeAtEnd_0 15 rfl rfl)
theorem dJ5_linkNodeAtEnd_18 : decode cJ5_linkNodeAtEnd 18 = .ok (.aload_n 2, 1) := dk_44 (dk_at dksJ5_linkNodeAtEnd_0 18 rfl rfl)
theorem dJ5_linkNodeAtEnd_19 : decode cJ5_linkNodeAtEnd 19 = .ok (.ifnonnull 11, 3) := dk_199 0 11 (dk_at dksJ5_linkNodeAtEnd_0 19 rfl rfl)
theorem dJ5_linkNodeAtEnd_22 : decode cJ5_linkNodeAtEnd 22 = .ok (.aload_n 0, 1) := dk_42 (dk_at dksJ5_linkNodeAtEnd_0 22 rfl rfl)
theorem dJ5_linkNodeAtEnd_23 : decode cJ5_linkNodeAtEnd 23 = .ok (.aload_n 1, 1) := dk_43 (dk_at dksJ5_linkNodeAtEnd_0 23 rfl rfl)
theorem dJ5_linkNodeAtEnd_24 : decode cJ5_linkNodeAtEnd 24 = .ok (.putfield 11, 3) := dk_181 0 11 (dk_at dksJ5_linkNodeAtEnd_1 0 rfl rfl)
theorem dJ5_linkNodeAtEnd_27 : decode cJ5_linkNodeAtEnd 27 = .ok (.goto 13, 3) := dk_167 0 13 (dk_at dksJ5_linkNodeAtEnd_1 3 rfl rfl)
theorem dJ5_linkNodeAtEnd_30 : decode cJ5_linkNodeAtEnd 30 = .ok (.aload_n 1, 1) := dk_43 (dk_at dksJ5_linkNodeAtEnd_1 6 rfl rfl)
theorem dJ5_linkNodeAtEnd_31 : decode cJ5_linkNodeAtEnd 31 = .ok (.aload_n 2, 1) := dk_44 (dk_at dksJ5_linkNodeAtEnd_1 7 rfl rfl)
theorem dJ5_linkNodeAtEnd_32 : decode cJ5_linkNodeAtEnd 32 = .ok (.putfield 14, 3) := dk_181 0 14 (dk_at dksJ5_linkNodeAtEnd_1 8 rfl rfl)
theorem dJ5_linkNodeAtEnd_35 : decode cJ5_linkNodeAtEnd 35 = .ok (.aload_n 2, 1) := dk_44 (dk_at dksJ5_linkNodeAtEnd_1 11 rfl rfl)
theorem dJ5_linkNodeAtEnd_36 : decode cJ5_linkNodeAtEnd 36 = .ok (.aload_n 1, 1) := dk_43 (dk_at dksJ5_linkNodeAtEnd_1 12 rfl rfl)
theorem dJ5_linkNodeAtEnd_37 : decode cJ5_linkNodeAtEnd 37 = .ok (.putfield 19, 3) := dk_181 0 19 (dk_at dksJ5_linkNodeAtEnd_1 13 rfl rfl)
theorem dJ5_linkNodeAtEnd_40 : decode cJ5_linkNodeAtEnd 40 = .ok (.goto 35, 3) := dk_167 0 35 (dk_at dksJ5_linkNodeAtEnd_1 16 rfl rfl)
theorem dJ5_linkNodeAtEnd_43 : decode cJ5_linkNodeAtEnd 43 = .ok (.aload_n 0, 1) := dk_42 (dk_at dksJ5_linkNodeAtEnd_1 19 rfl rfl)
theorem dJ5_linkNodeAtEnd_44 : decode cJ5_linkNodeAtEnd 44 = .ok (.getfield 11, 3) := dk_180 0 11 (dk_at dksJ5_linkNodeAtEnd_1 20 rfl rfl)
theorem dJ5_linkNodeAtEnd_47 : decode cJ5_linkNodeAtEnd 47 = .ok (.astore_n 2, 1) := dk_77 (dk_at dksJ5_linkNodeAtEnd_1 23 rfl rfl)
theorem dJ5_linkNodeAtEnd_48 : decode cJ5_linkNodeAtEnd 48 = .ok (.aload_n 0, 1) := dk_42 (dk_at dksJ5_linkNodeAtEnd_2 0 rfl rfl)
theorem dJ5_linkNodeAtEnd_49 : decode cJ5_linkNodeAtEnd 49 = .ok (.aload_n 1, 1) := dk_43 (dk_at dksJ5_linkNodeAtEnd_2 1 rfl rfl)
theorem dJ5_linkNodeAtEnd_50 : decode cJ5_linkNodeAtEnd 50 = .ok (.putfield 11, 3) := dk_181 0 11 (dk_at dksJ5_linkNodeAtEnd_2 2 rfl rfl)
theorem dJ5_linkNodeAtEnd_53 : decode cJ5_linkNodeAtEnd 53 = .ok (.aload_n 2, 1) := dk_44 (dk_at dksJ5_linkNodeAtEnd_2 5 rfl rfl)
theorem dJ5_linkNodeAtEnd_54 : decode cJ5_linkNodeAtEnd 54 = .ok (.ifnonnull 11, 3) := dk_199 0 11 (dk_at dksJ5_linkNodeAtEnd_2 6 rfl rfl)
theorem dJ5_linkNodeAtEnd_57 : decode cJ5_linkNodeAtEnd 57 = .ok (.aload_n 0, 1) := dk_42 (dk_at dksJ5_linkNodeAtEnd_2 9 rfl rfl)
theorem dJ5_linkNodeAtEnd_58 : decode cJ5_linkNodeAtEnd 58 = .ok (.aload_n 1, 1) := dk_43 (dk_at dksJ5_linkNodeAtEnd_2 10 rfl rfl)
theorem dJ5_linkNodeAtEnd_59 : decode cJ5_linkNodeAtEnd 59 = .ok (.putfield 7, 3) := dk_181 0 7 (dk_at dksJ5_linkNodeAtEnd_2 11 rfl rfl)
theorem dJ5_linkNodeAtEnd_62 : decode cJ5_linkNodeAtEnd 62 = .ok (.goto 13, 3) := dk_167 0 13 (dk_at dksJ5_linkNodeAtEnd_2 14 rfl rfl)
theorem dJ5_linkNodeAtEnd_65 : decode cJ5_linkNodeAtEnd 65 = .ok (.aload_n 1, 1) := dk_43 (dk_at dksJ5_linkNodeAtEnd_2 17 rfl rfl)
theorem dJ5_linkNodeAtEnd_66 : decode cJ5_linkNodeAtEnd 66 = .ok (.aload_n 2, 1) := dk_44 (dk_at dksJ5_linkNodeAtEnd_2 18 rfl rfl)
theorem dJ5_linkNodeAtEnd_67 : decode cJ5_linkNodeAtEnd 67 = .ok (.putfield 19, 3) := dk_181 0 19 (dk_at dksJ5_linkNodeAtEnd_2 19 rfl rfl)
theorem dJ5_linkNodeAtEnd_70 : decode cJ5_linkNodeAtEnd 70 = .ok (.aload_n 2, 1) := dk_44 (dk_at dksJ5_linkNodeAtEnd_2 22 rfl rfl)
theorem dJ5_linkNodeAtEnd_71 : decode cJ5_linkNodeAtEnd 71 = .ok (.aload_n 1, 1) := dk_43 (dk_at dksJ5_linkNodeAtEnd_2 23 rfl rfl)
theorem dJ5_linkNodeAtEnd_72 : decode cJ5_linkNodeAtEnd 72 = .ok (.putfield 14, 3) := dk_181 0 14 (dk_at dksJ5_linkNodeAtEnd_3 0 rfl rfl)
theorem dJ5_linkNodeAtEnd_75 : decode cJ5_linkNodeAtEnd 75 = .ok (.return_, 1) := dk_177 (dk_at dksJ5_linkNodeAtEnd_3 3 rfl rfl)
abbrev iJ5_linkNodeAtEnd : xM := (yJ5_linkNodeAtEnd, cJ5_linkNodeAtEnd, 3, none, [])
theorem mJ5_linkNodeAtEnd : xOkM iJ5_linkNodeAtEnd := ⟨by decide +kernel, by decide, q1792, q138⟩
abbrev cJ5_newTreeNode : ByteArray := prog_68_method_6_code
def yJ5_newTreeNode : MethodName := ⟨RJ5, "newTreeNode", "(ILjava/lang/Object;Ljava/lang/Object;Ljava/util/HashMap$Node;)Ljava/util/HashMap$TreeNode;"⟩
def dkwJ5_newTreeNode_0 : List UInt8 := [187, 0, 50, 89, 27, 44, 45, 25, 4, 183, 0, 52, 58, 5, 42, 25, 5, 182, 0, 32, 25, 5, 176]
abbrev dktJ5_newTreeNode_0 : List UInt8 := dkwJ5_newTreeNode_0 ++ []
theorem dksJ5_newTreeNode_0 : cJ5_newTreeNode.data.toList.drop 0 = dktJ5_newTreeNode_0 := by decide +kernel
theorem dJ5_newTreeNode_0 : decode cJ5_newTreeNode 0 = .ok (.new 50, 3) := dk_187 0 50 (dk_at dksJ5_newTreeNode_0 0 rfl rfl)
theorem dJ5_newTreeNode_3 : decode cJ5_newTreeNode 3 = .ok (.dup, 1) := dk_89 (dk_at dksJ5_newTreeNode_0 3 rfl rfl)
theorem dJ5_newTreeNode_4 : decode cJ5_newTreeNode 4 = .ok (.iload_n 1, 1) := dk_27 (dk_at dksJ5_newTreeNode_0 4 rfl rfl)
theorem dJ5_newTreeNode_5 : decode cJ5_newTreeNode 5 = .ok (.aload_n 2, 1) := dk_44 (dk_at dksJ5_newTreeNode_0 5 rfl rfl)
theorem dJ5_newTreeNode_6 : decode cJ5_newTreeNode 6 = .ok (.aload_n 3, 1) := dk_45 (dk_at dksJ5_newTreeNode_0 6 rfl rfl)
theorem dJ5_newTreeNode_7 : decode cJ5_newTreeNode 7 = .ok (.aload 4, 2) := dk_25 4 (dk_at dksJ5_newTreeNode_0 7 rfl rfl)
theorem dJ5_newTreeNode_9 : decode cJ5_newTreeNode 9 = .ok (.invokespecial 52, 3) := dk_183 0 52 (dk_at dksJ5_newTreeNode_0 9 rfl rfl)
theorem dJ5_newTreeNode_12 : decode cJ5_newTreeNode 12 = .ok (.astore 5, 2) := dk_58 5 (dk_at dksJ5_newTreeNode_0 12 rfl rfl)
theorem dJ5_newTreeNode_14 : decode cJ5_newTreeNode 14 = .ok (.aload_n 0, 1) := dk_42 (dk_at dksJ5_newTreeNode_0 14 rfl rfl)
theorem dJ5_newTreeNode_15 : decode cJ5_newTreeNode 15 = .ok (.aload 5, 2) := dk_25 5 (dk_at dksJ5_newTreeNode_0 15 rfl rfl)
theorem dJ5_newTreeNode_17 : decode cJ5_newTreeNode 17 = .ok (.invokevirtual 32, 3) := dk_182 0 32 (dk_at dksJ5_newTreeNode_0 17 rfl rfl)
theorem dJ5_newTreeNode_20 : decode cJ5_newTreeNode 20 = .ok (.aload 5, 2) := dk_25 5 (dk_at dksJ5_newTreeNode_0 20 rfl rfl)
theorem dJ5_newTreeNode_22 : decode cJ5_newTreeNode 22 = .ok (.areturn, 1) := dk_176 (dk_at dksJ5_newTreeNode_0 22 rfl rfl)
abbrev iJ5_newTreeNode : xM := (yJ5_newTreeNode, cJ5_newTreeNode, 6, (some (.object "java/util/HashMap$TreeNode")), [])
theorem mJ5_newTreeNode : xOkM iJ5_newTreeNode := ⟨by decide +kernel, by decide, q1857, q138⟩
abbrev cJ5_replacementTreeNode : ByteArray := prog_68_method_7_code
def yJ5_replacementTreeNode : MethodName := ⟨RJ5, "replacementTreeNode", "(Ljava/util/HashMap$Node;Ljava/util/HashMap$Node;)Ljava/util/HashMap$TreeNode;"⟩
def dkwJ5_replacementTreeNode_1 : List UInt8 := [183, 0, 52, 58, 4, 42, 45, 25, 4, 182, 0, 46, 25, 4, 176]
abbrev dktJ5_replacementTreeNode_1 : List UInt8 := dkwJ5_replacementTreeNode_1 ++ []
def dkwJ5_replacementTreeNode_0 : List UInt8 := [43, 192, 0, 15, 78, 187, 0, 50, 89, 45, 180, 0, 36, 45, 180, 0, 39, 45, 180, 0, 43, 44]
abbrev dktJ5_replacementTreeNode_0 : List UInt8 := dkwJ5_replacementTreeNode_0 ++ dktJ5_replacementTreeNode_1
theorem dksJ5_replacementTreeNode_0 : cJ5_replacementTreeNode.data.toList.drop 0 = dktJ5_replacementTreeNode_0 := by decide +kernel
theorem dksJ5_replacementTreeNode_1 : cJ5_replacementTreeNode.data.toList.drop 22 = dktJ5_replacementTreeNode_1 := dk_seg dksJ5_replacementTreeNode_0 22 rfl rfl
theorem dJ5_replacementTreeNode_0 : decode cJ5_replacementTreeNode 0 = .ok (.aload_n 1, 1) := dk_43 (dk_at dksJ5_replacementTreeNode_0 0 rfl rfl)
theorem dJ5_replacementTreeNode_1 : decode cJ5_replacementTreeNode 1 = .ok (.checkcast 15, 3) := dk_192 0 15 (dk_at dksJ5_replacementTreeNode_0 1 rfl rfl)
theorem dJ5_replacementTreeNode_4 : decode cJ5_replacementTreeNode 4 = .ok (.astore_n 3, 1) := dk_78 (dk_at dksJ5_replacementTreeNode_0 4 rfl rfl)
theorem dJ5_replacementTreeNode_5 : decode cJ5_replacementTreeNode 5 = .ok (.new 50, 3) := dk_187 0 50 (dk_at dksJ5_replacementTreeNode_0 5 rfl rfl)
theorem dJ5_replacementTreeNode_8 : decode cJ5_replacementTreeNode 8 = .ok (.dup, 1) := dk_89 (dk_at dksJ5_replacementTreeNode_0 8 rfl rfl)
theorem dJ5_replacementTreeNode_9 : decode cJ5_replacementTreeNode 9 = .ok (.aload_n 3, 1) := dk_45 (dk_at dksJ5_replacementTreeNode_0 9 rfl rfl)
theorem dJ5_replacementTreeNode_10 : decode cJ5_replacementTreeNode 10 = .ok (.getfield 36, 3) := dk_180 0 36 (dk_at dksJ5_replacementTreeNode_0 10 rfl rfl)
theorem dJ5_replacementTreeNode_13 : decode cJ5_replacementTreeNode 13 = .ok (.aload_n 3, 1) := dk_45 (dk_at dksJ5_replacementTreeNode_0 13 rfl rfl)
theorem dJ5_replacementTreeNode_14 : decode cJ5_replacementTreeNode 14 = .ok (.getfield 39, 3) := dk_180 0 39 (dk_at dksJ5_replacementTreeNode_0 14 rfl rfl)
theorem dJ5_replacementTreeNode_17 : decode cJ5_replacementTreeNode 17 = .ok (.aload_n 3, 1) := dk_45 (dk_at dksJ5_replacementTreeNode_0 17 rfl rfl)
theorem dJ5_replacementTreeNode_18 : decode cJ5_replacementTreeNode 18 = .ok (.getfield 43, 3) := dk_180 0 43 (dk_at dksJ5_replacementTreeNode_0 18 rfl rfl)
theorem dJ5_replacementTreeNode_21 : decode cJ5_replacementTreeNode 21 = .ok (.aload_n 2, 1) := dk_44 (dk_at dksJ5_replacementTreeNode_0 21 rfl rfl)
theorem dJ5_replacementTreeNode_22 : decode cJ5_replacementTreeNode 22 = .ok (.invokespecial 52, 3) := dk_183 0 52 (dk_at dksJ5_replacementTreeNode_1 0 rfl rfl)
theorem dJ5_replacementTreeNode_25 : decode cJ5_replacementTreeNode 25 = .ok (.astore 4, 2) := dk_58 4 (dk_at dksJ5_replacementTreeNode_1 3 rfl rfl)
theorem dJ5_replacementTreeNode_27 : decode cJ5_replacementTreeNode 27 = .ok (.aload_n 0, 1) := dk_42 (dk_at dksJ5_replacementTreeNode_1 5 rfl rfl)
theorem dJ5_replacementTreeNode_28 : decode cJ5_replacementTreeNode 28 = .ok (.aload_n 3, 1) := dk_45 (dk_at dksJ5_replacementTreeNode_1 6 rfl rfl)
theorem dJ5_replacementTreeNode_29 : decode cJ5_replacementTreeNode 29 = .ok (.aload 4, 2) := dk_25 4 (dk_at dksJ5_replacementTreeNode_1 7 rfl rfl)
theorem dJ5_replacementTreeNode_31 : decode cJ5_replacementTreeNode 31 = .ok (.invokevirtual 46, 3) := dk_182 0 46 (dk_at dksJ5_replacementTreeNode_1 9 rfl rfl)
theorem dJ5_replacementTreeNode_34 : decode cJ5_replacementTreeNode 34 = .ok (.aload 4, 2) := dk_25 4 (dk_at dksJ5_replacementTreeNode_1 12 rfl rfl)
theorem dJ5_replacementTreeNode_36 : decode cJ5_replacementTreeNode 36 = .ok (.areturn, 1) := dk_176 (dk_at dksJ5_replacementTreeNode_1 14 rfl rfl)
abbrev iJ5_replacementTreeNode : xM := (yJ5_replacementTreeNode, cJ5_replacementTreeNode, 5, (some (.object "java/util/HashMap$TreeNode")), [])
theorem mJ5_replacementTreeNode : xOkM iJ5_replacementTreeNode := ⟨by decide +kernel, by decide, q1898, q138⟩
abbrev cJ5_afterNodeAccess : ByteArray := prog_68_method_10_code
def yJ5_afterNodeAccess : MethodName := ⟨RJ5, "afterNodeAccess", "(Ljava/util/HashMap$Node;)V"⟩
def dkwJ5_afterNodeAccess_11 : List UInt8 := [181, 0, 7, 42, 89, 180, 0, 68, 4, 96, 181, 0, 68, 177]
abbrev dktJ5_afterNodeAccess_11 : List UInt8 := dkwJ5_afterNodeAccess_11 ++ []
def dkwJ5_afterNodeAccess_10 : List UInt8 := [25, 4, 181, 0, 11, 167, 0, 15, 25, 4, 45, 181, 0, 14, 45, 25, 4, 181, 0, 19, 42, 25, 4]
abbrev dktJ5_afterNodeAccess_10 : List UInt8 := dkwJ5_afterNodeAccess_10 ++ dktJ5_afterNodeAccess_11
def dkwJ5_afterNodeAccess_9 : List UInt8 := [25, 5, 198, 0, 13, 25, 5, 25, 6, 181, 0, 14, 167, 0, 6, 25, 6, 78, 45, 199, 0, 12, 42]
abbrev dktJ5_afterNodeAccess_9 : List UInt8 := dkwJ5_afterNodeAccess_9 ++ dktJ5_afterNodeAccess_10
def dkwJ5_afterNodeAccess_8 : List UInt8 := [181, 0, 19, 25, 6, 199, 0, 12, 42, 25, 5, 181, 0, 11, 167, 0, 10, 25, 6, 25, 5, 181, 0, 19]
abbrev dktJ5_afterNodeAccess_8 : List UInt8 := dkwJ5_afterNodeAccess_8 ++ dktJ5_afterNodeAccess_9
def dkwJ5_afterNodeAccess_7 : List UInt8 := [43, 192, 0, 15, 58, 4, 25, 4, 180, 0, 19, 58, 5, 25, 4, 180, 0, 14, 58, 6, 25, 4, 1]
abbrev dktJ5_afterNodeAccess_7 : List UInt8 := dkwJ5_afterNodeAccess_7 ++ dktJ5_afterNodeAccess_8
def dkwJ5_afterNodeAccess_6 : List UInt8 := [181, 0, 68, 167, 0, 127, 42, 180, 0, 1, 4, 160, 0, 119, 42, 180, 0, 7, 89, 78, 43, 165, 0, 109]
abbrev dktJ5_afterNodeAccess_6 : List UInt8 := dkwJ5_afterNodeAccess_6 ++ dktJ5_afterNodeAccess_7
def dkwJ5_afterNodeAccess_5 : List UInt8 := [181, 0, 19, 44, 25, 4, 181, 0, 14, 42, 25, 4, 181, 0, 11, 42, 89, 180, 0, 68, 4, 96]
abbrev dktJ5_afterNodeAccess_5 : List UInt8 := dkwJ5_afterNodeAccess_5 ++ dktJ5_afterNodeAccess_6
def dkwJ5_afterNodeAccess_4 : List UInt8 := [167, 0, 6, 25, 5, 77, 44, 199, 0, 12, 42, 25, 4, 181, 0, 7, 167, 0, 15, 25, 4, 44]
abbrev dktJ5_afterNodeAccess_4 : List UInt8 := dkwJ5_afterNodeAccess_4 ++ dktJ5_afterNodeAccess_5
def dkwJ5_afterNodeAccess_3 : List UInt8 := [167, 0, 10, 25, 5, 25, 6, 181, 0, 14, 25, 6, 198, 0, 13, 25, 6, 25, 5, 181, 0, 19]
abbrev dktJ5_afterNodeAccess_3 : List UInt8 := dkwJ5_afterNodeAccess_3 ++ dktJ5_afterNodeAccess_4
def dkwJ5_afterNodeAccess_2 : List UInt8 := [180, 0, 14, 58, 6, 25, 4, 1, 181, 0, 14, 25, 5, 199, 0, 12, 42, 25, 6, 181, 0, 7]
abbrev dktJ5_afterNodeAccess_2 : List UInt8 := dkwJ5_afterNodeAccess_2 ++ dktJ5_afterNodeAccess_3
def dkwJ5_afterNodeAccess_1 : List UInt8 := [180, 0, 11, 89, 77, 43, 165, 0, 112, 43, 192, 0, 15, 58, 4, 25, 4, 180, 0, 19, 58, 5, 25, 4]
abbrev dktJ5_afterNodeAccess_1 : List UInt8 := dkwJ5_afterNodeAccess_1 ++ dktJ5_afterNodeAccess_2
def dkwJ5_afterNodeAccess_0 : List UInt8 := [42, 180, 0, 1, 5, 159, 0, 17, 42, 180, 0, 1, 154, 0, 129, 42, 180, 0, 64, 153, 0, 122, 42]
abbrev dktJ5_afterNodeAccess_0 : List UInt8 := dkwJ5_afterNodeAccess_0 ++ dktJ5_afterNodeAccess_1
theorem dksJ5_afterNodeAccess_0 : cJ5_afterNodeAccess.data.toList.drop 0 = dktJ5_afterNodeAccess_0 := by decide +kernel
theorem dksJ5_afterNodeAccess_1 : cJ5_afterNodeAccess.data.toList.drop 23 = dktJ5_afterNodeAccess_1 := dk_seg dksJ5_afterNodeAccess_0 23 rfl rfl
theorem dksJ5_afterNodeAccess_2 : cJ5_afterNodeAccess.data.toList.drop 47 = dktJ5_afterNodeAccess_2 := dk_seg dksJ5_afterNodeAccess_1 24 rfl rfl
theorem dksJ5_afterNodeAccess_3 : cJ5_afterNodeAccess.data.toList.drop 69 = dktJ5_afterNodeAccess_3 := dk_seg dksJ5_afterNodeAccess_2 22 rfl rfl
theorem dksJ5_afterNodeAccess_4 : cJ5_afterNodeAccess.data.toList.drop 91 = dktJ5_afterNodeAccess_4 := dk_seg dksJ5_afterNodeAccess_3 22 rfl rfl
theorem dksJ5_afterNodeAccess_5 : cJ5_afterNodeAccess.data.toList.drop 113 = dktJ5_afterNodeAccess_5 := dk_seg dksJ5_afterNodeAccess_4 22 rfl rfl
theorem dksJ5_afterNodeAccess_6 : cJ5_afterNodeAccess.data.toList.drop 135 = dktJ5_afterNodeAccess_6 := dk_seg dksJ5_afterNodeAccess_5 22 rfl rfl
theorem dksJ5_afterNodeAccess_7 : cJ5_afterNodeAccess.data.toList.drop 159 = dktJ5_afterNodeAccess_7 := dk_seg dksJ5_afterNodeAccess_6 24 rfl rfl
theorem dksJ5_afterNodeAccess_8 : cJ5_afterNodeAccess.data.toList.drop 182 = dktJ5_afterNodeAccess_8 := dk_seg dksJ5_afterNodeAccess_7 23 rfl rfl
theorem dksJ5_afterNodeAccess_9 : cJ5_afterNodeAccess.data.toList.drop 206 = dktJ5_afterNodeAccess_9 := dk_seg dksJ5_afterNodeAccess_8 24 rfl rfl
theorem dksJ5_afterNodeAccess_10 : cJ5_afterNodeAccess.data.toList.drop 229 = dktJ5_afterNodeAccess_10 := dk_seg dksJ5_afterNodeAccess_9 23 rfl rfl
theorem dksJ5_afterNodeAccess_11 : cJ5_afterNodeAccess.data.toList.drop 252 = dktJ5_afterNodeAccess_11 := dk_seg dksJ5_afterNodeAccess_10 23 rfl rfl
theorem dJ5_afterNodeAccess_0 : decode cJ5_afterNodeAccess 0 = .ok (.aload_n 0, 1) := dk_42 (dk_at dksJ5_afterNodeAccess_0 0 rfl rfl)
theorem dJ5_afterNodeAccess_1 : decode cJ5_afterNodeAccess 1 = .ok (.getfield 1, 3) := dk_180 0 1 (dk_at dksJ5_afterNodeAccess_0 1 rfl rfl)
theorem dJ5_afterNodeAccess_4 : decode cJ5_afterNodeAccess 4 = .ok (.iconst 2, 1) := dk_5 (dk_at dksJ5_afterNodeAccess_0 4 rfl rfl)
theorem dJ5_afterNodeAccess_5 : decode cJ5_afterNodeAccess 5 = .ok (.if_icmp .eq 17, 3) := dk_159 0 17 (dk_at dksJ5_afterNodeAccess_0 5 rfl rfl)
theorem dJ5_afterNodeAccess_8 : decode cJ5_afterNodeAccess 8 = .ok (.aload_n 0, 1) := dk_42 (dk_at dksJ5_afterNodeAccess_0 8 rfl rfl)
theorem dJ5_afterNodeAccess_9 : decode cJ5_afterNodeAccess 9 = .ok (.getfield 1, 3) := dk_180 0 1 (dk_at dksJ5_afterNodeAccess_0 9 rfl rfl)
theorem dJ5_afterNodeAccess_12 : decode cJ5_afterNodeAccess 12 = .ok (.ifCond .ne 129, 3) := dk_154 0 129 (dk_at dksJ5_afterNodeAccess_0 12 rfl rfl)
theorem dJ5_afterNodeAccess_15 : decode cJ5_afterNodeAccess 15 = .ok (.aload_n 0, 1) := dk_42 (dk_at dksJ5_afterNodeAccess_0 15 rfl rfl)
theorem dJ5_afterNodeAccess_16 : decode cJ5_afterNodeAccess 16 = .ok (.getfield 64, 3) := dk_180 0 64 (dk_at dksJ5_afterNodeAccess_0 16 rfl rfl)
theorem dJ5_afterNodeAccess_19 : decode cJ5_afterNodeAccess 19 = .ok (.ifCond .eq 122, 3) := dk_153 0 122 (dk_at dksJ5_afterNodeAccess_0 19 rfl rfl)
theorem dJ5_afterNodeAccess_22 : decode cJ5_afterNodeAccess 22 = .ok (.aload_n 0, 1) := dk_42 (dk_at dksJ5_afterNodeAccess_0 22 rfl rfl)
theorem dJ5_afterNodeAccess_23 : decode cJ5_afterNodeAccess 23 = .ok (.getfield 11, 3) := dk_180 0 11 (dk_at dksJ5_afterNodeAccess_1 0 rfl rfl)
theorem dJ5_afterNodeAccess_26 : decode cJ5_afterNodeAccess 26 = .ok (.dup, 1) := dk_89 (dk_at dksJ5_afterNodeAccess_1 3 rfl rfl)
theorem dJ5_afterNodeAccess_27 : decode cJ5_afterNodeAccess 27 = .ok (.astore_n 2, 1) := dk_77 (dk_at dksJ5_afterNodeAccess_1 4 rfl rfl)
theorem dJ5_afterNodeAccess_28 : decode cJ5_afterNodeAccess 28 = .ok (.aload_n 1, 1) := dk_43 (dk_at dksJ5_afterNodeAccess_1 5 rfl rfl)
theorem dJ5_afterNodeAccess_29 : decode cJ5_afterNodeAccess 29 = .ok (.if_acmp .eq 112, 3) := dk_165 0 112 (dk_at dksJ5_afterNodeAccess_1 6 rfl rfl)
theorem dJ5_afterNodeAccess_32 : decode cJ5_afterNodeAccess 32 = .ok (.aload_n 1, 1) := dk_43 (dk_at dksJ5_afterNodeAccess_1 9 rfl rfl)
theorem dJ5_afterNodeAccess_33 : decode cJ5_afterNodeAccess 33 = .ok (.checkcast 15, 3) := dk_192 0 15 (dk_at dksJ5_afterNodeAccess_1 10 rfl rfl)
theorem dJ5_afterNodeAccess_36 : decode cJ5_afterNodeAccess 36 = .ok (.astore 4, 2) := dk_58 4 (dk_at dksJ5_afterNodeAccess_1 13 rfl rfl)
theorem dJ5_afterNodeAccess_38 : decode cJ5_afterNodeAccess 38 = .ok (.aload 4, 2) := dk_25 4 (dk_at dksJ5_afterNodeAccess_1 15 rfl rfl)
theorem dJ5_afterNodeAccess_40 : decode cJ5_afterNodeAccess 40 = .ok (.getfield 19, 3) := dk_180 0 19 (dk_at dksJ5_afterNodeAccess_1 17 rfl rfl)
theorem dJ5_afterNodeAccess_43 : decode cJ5_afterNodeAccess 43 = .ok (.astore 5, 2) := dk_58 5 (dk_at dksJ5_afterNodeAccess_1 20 rfl rfl)
theorem dJ5_afterNodeAccess_45 : decode cJ5_afterNodeAccess 45 = .ok (.aload 4, 2) := dk_25 4 (dk_at dksJ5_afterNodeAccess_1 22 rfl rfl)
theorem dJ5_afterNodeAccess_47 : decode cJ5_afterNodeAccess 47 = .ok (.getfield 14, 3) := dk_180 0 14 (dk_at dksJ5_afterNodeAccess_2 0 rfl rfl)
theorem dJ5_afterNodeAccess_50 : decode cJ5_afterNodeAccess 50 = .ok (.astore 6, 2) := dk_58 6 (dk_at dksJ5_afterNodeAccess_2 3 rfl rfl)
theorem dJ5_afterNodeAccess_52 : decode cJ5_afterNodeAccess 52 = .ok (.aload 4, 2) := dk_25 4 (dk_at dksJ5_afterNodeAccess_2 5 rfl rfl)
theorem dJ5_afterNodeAccess_54 : decode cJ5_afterNodeAccess 54 = .ok (.aconst_null, 1) := dk_1 (dk_at dksJ5_afterNodeAccess_2 7 rfl rfl)
theorem dJ5_afterNodeAccess_55 : decode cJ5_afterNodeAccess 55 = .ok (.putfield 14, 3) := dk_181 0 14 (dk_at dksJ5_afterNodeAccess_2 8 rfl rfl)
theorem dJ5_afterNodeAccess_58 : decode cJ5_afterNodeAccess 58 = .ok (.aload 5, 2) := dk_25 5 (dk_at dksJ5_afterNodeAccess_2 11 rfl rfl)
theorem dJ5_afterNodeAccess_60 : decode cJ5_afterNodeAccess 60 = .ok (.ifnonnull 12, 3) := dk_199 0 12 (dk_at dksJ5_afterNodeAccess_2 13 rfl rfl)
theorem dJ5_afterNodeAccess_63 : decode cJ5_afterNodeAccess 63 = .ok (.aload_n 0, 1) := dk_42 (dk_at dksJ5_afterNodeAccess_2 16 rfl rfl)
theorem dJ5_afterNodeAccess_64 : decode cJ5_afterNodeAccess 64 = .ok (.aload 6, 2) := dk_25 6 (dk_at dksJ5_afterNodeAccess_2 17 rfl rfl)
theorem dJ5_afterNodeAccess_66 : decode cJ5_afterNodeAccess 66 = .ok (.putfield 7, 3) := dk_181 0 7 (dk_at dksJ5_afterNodeAccess_2 19 rfl rfl)
theorem dJ5_afterNodeAccess_69 : decode cJ5_afterNodeAccess 69 = .ok (.goto 10, 3) := dk_167 0 10 (dk_at dksJ5_afterNodeAccess_3 0 rfl rfl)
theorem dJ5_afterNodeAccess_72 : decode cJ5_afterNodeAccess 72 = .ok (.aload 5, 2) := dk_25 5 (dk_at dksJ5_afterNodeAccess_3 3 rfl rfl)
theorem dJ5_afterNodeAccess_74 : decode cJ5_afterNodeAccess 74 = .ok (.aload 6, 2) := dk_25 6 (dk_at dksJ5_afterNodeAccess_3 5 rfl rfl)
theorem dJ5_afterNodeAccess_76 : decode cJ5_afterNodeAccess 76 = .ok (.putfield 14, 3) := dk_181 0 14 (dk_at dksJ5_afterNodeAccess_3 7 rfl rfl)
theorem dJ5_afterNodeAccess_79 : decode cJ5_afterNodeAccess 79 = .ok (.aload 6, 2) := dk_25 6 (dk_at dksJ5_afterNodeAccess_3 10 rfl rfl)
theorem dJ5_afterNodeAccess_81 : decode cJ5_afterNodeAccess 81 = .ok (.ifnull 13, 3) := dk_198 0 13 (dk_at dksJ5_afterNodeAccess_3 12 rfl rfl)
theorem dJ5_afterNodeAccess_84 : decode cJ5_afterNodeAccess 84 = .ok (.aload 6, 2) := dk_25 6 (dk_at dksJ5_afterNodeAccess_3 15 rfl rfl)
theorem dJ5_afterNodeAccess_86 : decode cJ5_afterNodeAccess 86 = .ok (.aload 5, 2) := dk_25 5 (dk_at dksJ5_afterNodeAccess_3 17 rfl rfl)
theorem dJ5_afterNodeAccess_88 : decode cJ5_afterNodeAccess 88 = .ok (.putfield 19, 3) := dk_181 0 19 (dk_at dksJ5_afterNodeAccess_3 19 rfl rfl)
theorem dJ5_afterNodeAccess_91 : decode cJ5_afterNodeAccess 91 = .ok (.goto 6, 3) := dk_167 0 6 (dk_at dksJ5_afterNodeAccess_4 0 rfl rfl)
theorem dJ5_afterNodeAccess_94 : decode cJ5_afterNodeAccess 94 = .ok (.aload 5, 2) := dk_25 5 (dk_at dksJ5_afterNodeAccess_4 3 rfl rfl)
theorem dJ5_afterNodeAccess_96 : decode cJ5_afterNodeAccess 96 = .ok (.astore_n 2, 1) := dk_77 (dk_at dksJ5_afterNodeAccess_4 5 rfl rfl)
theorem dJ5_afterNodeAccess_97 : decode cJ5_afterNodeAccess 97 = .ok (.aload_n 2, 1) := dk_44 (dk_at dksJ5_afterNodeAccess_4 6 rfl rfl)
theorem dJ5_afterNodeAccess_98 : decode cJ5_afterNodeAccess 98 = .ok (.ifnonnull 12, 3) := dk_199 0 12 (dk_at dksJ5_afterNodeAccess_4 7 rfl rfl)
theorem dJ5_afterNodeAccess_101 : decode cJ5_afterNodeAccess 101 = .ok (.aload_n 0, 1) := dk_42 (dk_at dksJ5_afterNodeAccess_4 10 rfl rfl)
theorem dJ5_afterNodeAccess_102 : decode cJ5_afterNodeAccess 102 = .ok (.aload 4, 2) := dk_25 4 (dk_at dksJ5_afterNodeAccess_4 11 rfl rfl)
theorem dJ5_afterNodeAccess_104 : decode cJ5_afterNodeAccess 104 = .ok (.putfield 7, 3) := dk_181 0 7 (dk_at dksJ5_afterNodeAccess_4 13 rfl rfl)
theorem dJ5_afterNodeAccess_107 : decode cJ5_afterNodeAccess 107 = .ok (.goto 15, 3) := dk_167 0 15 (dk_at dksJ5_afterNodeAccess_4 16 rfl rfl)
theorem dJ5_afterNodeAccess_110 : decode cJ5_afterNodeAccess 110 = .ok (.aload 4, 2) := dk_25 4 (dk_at dksJ5_afterNodeAccess_4 19 rfl rfl)
theorem dJ5_afterNodeAccess_112 : decode cJ5_afterNodeAccess 112 = .ok (.aload_n 2, 1) := dk_44 (dk_at dksJ5_afterNodeAccess_4 21 rfl rfl)
theorem dJ5_afterNodeAccess_113 : decode cJ5_afterNodeAccess 113 = .ok (.putfield 19, 3) := dk_181 0 19 (dk_at dksJ5_afterNodeAccess_5 0 rfl rfl)
theorem dJ5_afterNodeAccess_116 : decode cJ5_afterNodeAccess 116 = .ok (.aload_n 2, 1) := dk_44 (dk_at dksJ5_afterNodeAccess_5 3 rfl rfl)
theorem dJ5_afterNodeAccess_117 : decode cJ5_afterNodeAccess 117 = .ok (.aload 4, 2) := dk_25 4 (dk_at dksJ5_afterNodeAccess_5 4 rfl rfl)
theorem dJ5_afterNodeAccess_119 : decode cJ5_afterNodeAccess 119 = .ok (.putfield 14, 3) := dk_181 0 14 (dk_at dksJ5_afterNodeAccess_5 6 rfl rfl)
theorem dJ5_afterNodeAccess_122 : decode cJ5_afterNodeAccess 122 = .ok (.aload_n 0, 1) := dk_42 (dk_at dksJ5_afterNodeAccess_5 9 rfl rfl)
theorem dJ5_afterNodeAccess_123 : decode cJ5_afterNodeAccess 123 = .ok (.aload 4, 2) := dk_25 4 (dk_at dksJ5_afterNodeAccess_5 10 rfl rfl)
theorem dJ5_afterNodeAccess_125 : decode cJ5_afterNodeAccess 125 = .ok (.putfield 11, 3) := dk_181 0 11 (dk_at dksJ5_afterNodeAccess_5 12 rfl rfl)
theorem dJ5_afterNodeAccess_128 : decode cJ5_afterNodeAccess 128 = .ok (.aload_n 0, 1) := dk_42 (dk_at dksJ5_afterNodeAccess_5 15 rfl rfl)
theorem dJ5_afterNodeAccess_129 : decode cJ5_afterNodeAccess 129 = .ok (.dup, 1) := dk_89 (dk_at dksJ5_afterNodeAccess_5 16 rfl rfl)
theorem dJ5_afterNodeAccess_130 : decode cJ5_afterNodeAccess 130 = .ok (.getfield 68, 3) := dk_180 0 68 (dk_at dksJ5_afterNodeAccess_5 17 rfl rfl)
theorem dJ5_afterNodeAccess_133 : decode cJ5_afterNodeAccess 133 = .ok (.iconst 1, 1) := dk_4 (dk_at dksJ5_afterNodeAccess_5 20 rfl rfl)
theorem dJ5_afterNodeAccess_134 : decode cJ5_afterNodeAccess 134 = .ok (.iadd, 1) := dk_96 (dk_at dksJ5_afterNodeAccess_5 21 rfl rfl)
theorem dJ5_afterNodeAccess_135 : decode cJ5_afterNodeAccess 135 = .ok (.putfield 68, 3) := dk_181 0 68 (dk_at dksJ5_afterNodeAccess_6 0 rfl rfl)
theorem dJ5_afterNodeAccess_138 : decode cJ5_afterNodeAccess 138 = .ok (.goto 127, 3) := dk_167 0 127 (dk_at dksJ5_afterNodeAccess_6 3 rfl rfl)
theorem dJ5_afterNodeAccess_141 : decode cJ5_afterNodeAccess 141 = .ok (.aload_n 0, 1) := dk_42 (dk_at dksJ5_afterNodeAccess_6 6 rfl rfl)
theorem dJ5_afterNodeAccess_142 : decode cJ5_afterNodeAccess 142 = .ok (.getfield 1, 3) := dk_180 0 1 (dk_at dksJ5_afterNodeAccess_6 7 rfl rfl)
theorem dJ5_afterNodeAccess_145 : decode cJ5_afterNodeAccess 145 = .ok (.iconst 1, 1) := dk_4 (dk_at dksJ5_afterNodeAccess_6 10 rfl rfl)
theorem dJ5_afterNodeAccess_146 : decode cJ5_afterNodeAccess 146 = .ok (.if_icmp .ne 119, 3) := dk_160 0 119 (dk_at dksJ5_afterNodeAccess_6 11 rfl rfl)
theorem dJ5_afterNodeAccess_149 : decode cJ5_afterNodeAccess 149 = .ok (.aload_n 0, 1) := dk_42 (dk_at dksJ5_afterNodeAccess_6 14 rfl rfl)
theorem dJ5_afterNodeAccess_150 : decode cJ5_afterNodeAccess 150 = .ok (.getfield 7, 3) := dk_180 0 7 (dk_at dksJ5_afterNodeAccess_6 15 rfl rfl)
theorem dJ5_afterNodeAccess_153 : decode cJ5_afterNodeAccess 153 = .ok (.dup, 1) := dk_89 (dk_at dksJ5_afterNodeAccess_6 18 rfl rfl)
theorem dJ5_afterNodeAccess_154 : decode cJ5_afterNodeAccess 154 = .ok (.astore_n 3, 1) := dk_78 (dk_at dksJ5_afterNodeAccess_6 19 rfl rfl)
theorem dJ5_afterNodeAccess_155 : decode cJ5_afterNodeAccess 155 = .ok (.aload_n 1, 1) := dk_43 (dk_at dksJ5_afterNodeAccess_6 20 rfl rfl)
theorem dJ5_afterNodeAccess_156 : decode cJ5_afterNodeAccess 156 = .ok (.if_acmp .eq 109, 3) := dk_165 0 109 (dk_at dksJ5_afterNodeAccess_6 21 rfl rfl)
theorem dJ5_afterNodeAccess_159 : decode cJ5_afterNodeAccess 159 = .ok (.aload_n 1, 1) := dk_43 (dk_at dksJ5_afterNodeAccess_7 0 rfl rfl)
theorem dJ5_afterNodeAccess_160 : decode cJ5_afterNodeAccess 160 = .ok (.checkcast 15, 3) := dk_192 0 15 (dk_at dksJ5_afterNodeAccess_7 1 rfl rfl)
theorem dJ5_afterNodeAccess_163 : decode cJ5_afterNodeAccess 163 = .ok (.astore 4, 2) := dk_58 4 (dk_at dksJ5_afterNodeAccess_7 4 rfl rfl)
theorem dJ5_afterNodeAccess_165 : decode cJ5_afterNodeAccess 165 = .ok (.aload 4, 2) := dk_25 4 (dk_at dksJ5_afterNodeAccess_7 6 rfl rfl)
theorem dJ5_afterNodeAccess_167 : decode cJ5_afterNodeAccess 167 = .ok (.getfield 19, 3) := dk_180 0 19 (dk_at dksJ5_afterNodeAccess_7 8 rfl rfl)
theorem dJ5_afterNodeAccess_170 : decode cJ5_afterNodeAccess 170 = .ok (.astore 5, 2) := dk_58 5 (dk_at dksJ5_afterNodeAccess_7 11 rfl rfl)
theorem dJ5_afterNodeAccess_172 : decode cJ5_afterNodeAccess 172 = .ok (.aload 4, 2) := dk_25 4 (dk_at dksJ5_afterNodeAccess_7 13 rfl rfl)
theorem dJ5_afterNodeAccess_174 : decode cJ5_afterNodeAccess 174 = .ok (.getfield 14, 3) := dk_180 0 14 (dk_at dksJ5_afterNodeAccess_7 15 rfl rfl)
theorem dJ5_afterNodeAccess_177 : decode cJ5_afterNodeAccess 177 = .ok (.astore 6, 2) := dk_58 6 (dk_at dksJ5_afterNodeAccess_7 18 rfl rfl)
theorem dJ5_afterNodeAccess_179 : decode cJ5_afterNodeAccess 179 = .ok (.aload 4, 2) := dk_25 4 (dk_at dksJ5_afterNodeAccess_7 20 rfl rfl)
theorem dJ5_afterNodeAccess_181 : decode cJ5_afterNodeAccess 181 = .ok (.aconst_null, 1) := dk_1 (dk_at dksJ5_afterNodeAccess_7 22 rfl rfl)
theorem dJ5_afterNodeAccess_182 : decode cJ5_afterNodeAccess 182 = .ok (.putfield 19, 3) := dk_181 0 19 (dk_at dksJ5_afterNodeAccess_8 0 rfl rfl)
theorem dJ5_afterNodeAccess_185 : decode cJ5_afterNodeAccess 185 = .ok (.aload 6, 2) := dk_25 6 (dk_at dksJ5_afterNodeAccess_8 3 rfl rfl)
theorem dJ5_afterNodeAccess_187 : decode cJ5_afterNodeAccess 187 = .ok (.ifnonnull 12, 3) := dk_199 0 12 (dk_at dksJ5_afterNodeAccess_8 5 rfl rfl)
theorem dJ5_afterNodeAccess_190 : decode cJ5_afterNodeAccess 190 = .ok (.aload_n 0, 1) := dk_42 (dk_at dksJ5_afterNodeAccess_8 8 rfl rfl)
theorem dJ5_afterNodeAccess_191 : decode cJ5_afterNodeAccess 191 = .ok (.aload 5, 2) := dk_25 5 (dk_at dksJ5_afterNodeAccess_8 9 rfl rfl)
theorem dJ5_afterNodeAccess_193 : decode cJ5_afterNodeAccess 193 = .ok (.putfield 11, 3) := dk_181 0 11 (dk_at dksJ5_afterNodeAccess_8 11 rfl rfl)
theorem dJ5_afterNodeAccess_196 : decode cJ5_afterNodeAccess 196 = .ok (.goto 10, 3) := dk_167 0 10 (dk_at dksJ5_afterNodeAccess_8 14 rfl rfl)
theorem dJ5_afterNodeAccess_199 : decode cJ5_afterNodeAccess 199 = .ok (.aload 6, 2) := dk_25 6 (dk_at dksJ5_afterNodeAccess_8 17 rfl rfl)
theorem dJ5_afterNodeAccess_201 : decode cJ5_afterNodeAccess 201 = .ok (.aload 5, 2) := dk_25 5 (dk_at dksJ5_afterNodeAccess_8 19 rfl rfl)
theorem dJ5_afterNodeAccess_203 : decode cJ5_afterNodeAccess 203 = .ok (.putfield 19, 3) := dk_181 0 19 (dk_at dksJ5_afterNodeAccess_8 21 rfl rfl)
theorem dJ5_afterNodeAccess_206 : decode cJ5_afterNodeAccess 206 = .ok (.aload 5, 2) := dk_25 5 (dk_at dksJ5_afterNodeAccess_9 0 rfl rfl)
theorem dJ5_afterNodeAccess_208 : decode cJ5_afterNodeAccess 208 = .ok (.ifnull 13, 3) := dk_198 0 13 (dk_at dksJ5_afterNodeAccess_9 2 rfl rfl)
theorem dJ5_afterNodeAccess_211 : decode cJ5_afterNodeAccess 211 = .ok (.aload 5, 2) := dk_25 5 (dk_at dksJ5_afterNodeAccess_9 5 rfl rfl)
theorem dJ5_afterNodeAccess_213 : decode cJ5_afterNodeAccess 213 = .ok (.aload 6, 2) := dk_25 6 (dk_at dksJ5_afterNodeAccess_9 7 rfl rfl)
theorem dJ5_afterNodeAccess_215 : decode cJ5_afterNodeAccess 215 = .ok (.putfield 14, 3) := dk_181 0 14 (dk_at dksJ5_afterNodeAccess_9 9 rfl rfl)
theorem dJ5_afterNodeAccess_218 : decode cJ5_afterNodeAccess 218 = .ok (.goto 6, 3) := dk_167 0 6 (dk_at dksJ5_afterNodeAccess_9 12 rfl rfl)
theorem dJ5_afterNodeAccess_221 : decode cJ5_afterNodeAccess 221 = .ok (.aload 6, 2) := dk_25 6 (dk_at dksJ5_afterNodeAccess_9 15 rfl rfl)
theorem dJ5_afterNodeAccess_223 : decode cJ5_afterNodeAccess 223 = .ok (.astore_n 3, 1) := dk_78 (dk_at dksJ5_afterNodeAccess_9 17 rfl rfl)
theorem dJ5_afterNodeAccess_224 : decode cJ5_afterNodeAccess 224 = .ok (.aload_n 3, 1) := dk_45 (dk_at dksJ5_afterNodeAccess_9 18 rfl rfl)
theorem dJ5_afterNodeAccess_225 : decode cJ5_afterNodeAccess 225 = .ok (.ifnonnull 12, 3) := dk_199 0 12 (dk_at dksJ5_afterNodeAccess_9 19 rfl rfl)
theorem dJ5_afterNodeAccess_228 : decode cJ5_afterNodeAccess 228 = .ok (.aload_n 0, 1) := dk_42 (dk_at dksJ5_afterNodeAccess_9 22 rfl rfl)
theorem dJ5_afterNodeAccess_229 : decode cJ5_afterNodeAccess 229 = .ok (.aload 4, 2) := dk_25 4 (dk_at dksJ5_afterNodeAccess_10 0 rfl rfl)
theorem dJ5_afterNodeAccess_231 : decode cJ5_afterNodeAccess 231 = .ok (.putfield 11, 3) := dk_181 0 11 (dk_at dksJ5_afterNodeAccess_10 2 rfl rfl)
theorem dJ5_afterNodeAccess_234 : decode cJ5_afterNodeAccess 234 = .ok (.goto 15, 3) := dk_167 0 15 (dk_at dksJ5_afterNodeAccess_10 5 rfl rfl)
theorem dJ5_afterNodeAccess_237 : decode cJ5_afterNodeAccess 237 = .ok (.aload 4, 2) := dk_25 4 (dk_at dksJ5_afterNodeAccess_10 8 rfl rfl)
theorem dJ5_afterNodeAccess_239 : decode cJ5_afterNodeAccess 239 = .ok (.aload_n 3, 1) := dk_45 (dk_at dksJ5_afterNodeAccess_10 10 rfl rfl)
theorem dJ5_afterNodeAccess_240 : decode cJ5_afterNodeAccess 240 = .ok (.putfield 14, 3) := dk_181 0 14 (dk_at dksJ5_afterNodeAccess_10 11 rfl rfl)
theorem dJ5_afterNodeAccess_243 : decode cJ5_afterNodeAccess 243 = .ok (.aload_n 3, 1) := dk_45 (dk_at dksJ5_afterNodeAccess_10 14 rfl rfl)
theorem dJ5_afterNodeAccess_244 : decode cJ5_afterNodeAccess 244 = .ok (.aload 4, 2) := dk_25 4 (dk_at dksJ5_afterNodeAccess_10 15 rfl rfl)
theorem dJ5_afterNodeAccess_246 : decode cJ5_afterNodeAccess 246 = .ok (.putfield 19, 3) := dk_181 0 19 (dk_at dksJ5_afterNodeAccess_10 17 rfl rfl)
theorem dJ5_afterNodeAccess_249 : decode cJ5_afterNodeAccess 249 = .ok (.aload_n 0, 1) := dk_42 (dk_at dksJ5_afterNodeAccess_10 20 rfl rfl)
theorem dJ5_afterNodeAccess_250 : decode cJ5_afterNodeAccess 250 = .ok (.aload 4, 2) := dk_25 4 (dk_at dksJ5_afterNodeAccess_10 21 rfl rfl)
theorem dJ5_afterNodeAccess_252 : decode cJ5_afterNodeAccess 252 = .ok (.putfield 7, 3) := dk_181 0 7 (dk_at dksJ5_afterNodeAccess_11 0 rfl rfl)
theorem dJ5_afterNodeAccess_255 : decode cJ5_afterNodeAccess 255 = .ok (.aload_n 0, 1) := dk_42 (dk_at dksJ5_afterNodeAccess_11 3 rfl rfl)
theorem dJ5_afterNodeAccess_256 : decode cJ5_afterNodeAccess 256 = .ok (.dup, 1) := dk_89 (dk_at dksJ5_afterNodeAccess_11 4 rfl rfl)
theorem dJ5_afterNodeAccess_257 : decode cJ5_afterNodeAccess 257 = .ok (.getfield 68, 3) := dk_180 0 68 (dk_at dksJ5_afterNodeAccess_11 5 rfl rfl)
theorem dJ5_afterNodeAccess_260 : decode cJ5_afterNodeAccess 260 = .ok (.iconst 1, 1) := dk_4 (dk_at dksJ5_afterNodeAccess_11 8 rfl rfl)
theorem dJ5_afterNodeAccess_261 : decode cJ5_afterNodeAccess 261 = .ok (.iadd, 1) := dk_96 (dk_at dksJ5_afterNodeAccess_11 9 rfl rfl)
theorem dJ5_afterNodeAccess_262 : decode cJ5_afterNodeAccess 262 = .ok (.putfield 68, 3) := dk_181 0 68 (dk_at dksJ5_afterNodeAccess_11 10 rfl rfl)
theorem dJ5_afterNodeAccess_265 : decode cJ5_afterNodeAccess 265 = .ok (.return_, 1) := dk_177 (dk_at dksJ5_afterNodeAccess_11 13 rfl rfl)
abbrev iJ5_afterNodeAccess : xM := (yJ5_afterNodeAccess, cJ5_afterNodeAccess, 7, none, [])
theorem mJ5_afterNodeAccess : xOkM iJ5_afterNodeAccess := ⟨by decide +kernel, by decide, q1906, q138⟩
abbrev cJ5_afterNodeInsertion : ByteArray := prog_68_method_9_code
def yJ5_afterNodeInsertion : MethodName := ⟨RJ5, "afterNodeInsertion", "(Z)V"⟩
def dkwJ5_afterNodeInsertion_1 : List UInt8 := [180, 0, 39, 78, 42, 45, 184, 0, 57, 45, 1, 3, 4, 182, 0, 60, 87, 177]
abbrev dktJ5_afterNodeInsertion_1 : List UInt8 := dkwJ5_afterNodeInsertion_1 ++ []
def dkwJ5_afterNodeInsertion_0 : List UInt8 := [27, 153, 0, 38, 42, 180, 0, 7, 89, 77, 198, 0, 29, 42, 44, 182, 0, 53, 153, 0, 21, 44]
abbrev dktJ5_afterNodeInsertion_0 : List UInt8 := dkwJ5_afterNodeInsertion_0 ++ dktJ5_afterNodeInsertion_1
theorem dksJ5_afterNodeInsertion_0 : cJ5_afterNodeInsertion.data.toList.drop 0 = dktJ5_afterNodeInsertion_0 := by decide +kernel
theorem dksJ5_afterNodeInsertion_1 : cJ5_afterNodeInsertion.data.toList.drop 22 = dktJ5_afterNodeInsertion_1 := dk_seg dksJ5_afterNodeInsertion_0 22 rfl rfl
theorem dJ5_afterNodeInsertion_0 : decode cJ5_afterNodeInsertion 0 = .ok (.iload_n 1, 1) := dk_27 (dk_at dksJ5_afterNodeInsertion_0 0 rfl rfl)
theorem dJ5_afterNodeInsertion_1 : decode cJ5_afterNodeInsertion 1 = .ok (.ifCond .eq 38, 3) := dk_153 0 38 (dk_at dksJ5_afterNodeInsertion_0 1 rfl rfl)
theorem dJ5_afterNodeInsertion_4 : decode cJ5_afterNodeInsertion 4 = .ok (.aload_n 0, 1) := dk_42 (dk_at dksJ5_afterNodeInsertion_0 4 rfl rfl)
theorem dJ5_afterNodeInsertion_5 : decode cJ5_afterNodeInsertion 5 = .ok (.getfield 7, 3) := dk_180 0 7 (dk_at dksJ5_afterNodeInsertion_0 5 rfl rfl)
theorem dJ5_afterNodeInsertion_8 : decode cJ5_afterNodeInsertion 8 = .ok (.dup, 1) := dk_89 (dk_at dksJ5_afterNodeInsertion_0 8 rfl rfl)
theorem dJ5_afterNodeInsertion_9 : decode cJ5_afterNodeInsertion 9 = .ok (.astore_n 2, 1) := dk_77 (dk_at dksJ5_afterNodeInsertion_0 9 rfl rfl)
theorem dJ5_afterNodeInsertion_10 : decode cJ5_afterNodeInsertion 10 = .ok (.ifnull 29, 3) := dk_198 0 29 (dk_at dksJ5_afterNodeInsertion_0 10 rfl rfl)
theorem dJ5_afterNodeInsertion_13 : decode cJ5_afterNodeInsertion 13 = .ok (.aload_n 0, 1) := dk_42 (dk_at dksJ5_afterNodeInsertion_0 13 rfl rfl)
theorem dJ5_afterNodeInsertion_14 : decode cJ5_afterNodeInsertion 14 = .ok (.aload_n 2, 1) := dk_44 (dk_at dksJ5_afterNodeInsertion_0 14 rfl rfl)
theorem dJ5_afterNodeInsertion_15 : decode cJ5_afterNodeInsertion 15 = .ok (.invokevirtual 53, 3) := dk_182 0 53 (dk_at dksJ5_afterNodeInsertion_0 15 rfl rfl)
theorem dJ5_afterNodeInsertion_18 : decode cJ5_afterNodeInsertion 18 = .ok (.ifCond .eq 21, 3) := dk_153 0 21 (dk_at dksJ5_afterNodeInsertion_0 18 rfl rfl)
theorem dJ5_afterNodeInsertion_21 : decode cJ5_afterNodeInsertion 21 = .ok (.aload_n 2, 1) := dk_44 (dk_at dksJ5_afterNodeInsertion_0 21 rfl rfl)
theorem dJ5_afterNodeInsertion_22 : decode cJ5_afterNodeInsertion 22 = .ok (.getfield 39, 3) := dk_180 0 39 (dk_at dksJ5_afterNodeInsertion_1 0 rfl rfl)
theorem dJ5_afterNodeInsertion_25 : decode cJ5_afterNodeInsertion 25 = .ok (.astore_n 3, 1) := dk_78 (dk_at dksJ5_afterNodeInsertion_1 3 rfl rfl)
theorem dJ5_afterNodeInsertion_26 : decode cJ5_afterNodeInsertion 26 = .ok (.aload_n 0, 1) := dk_42 (dk_at dksJ5_afterNodeInsertion_1 4 rfl rfl)
theorem dJ5_afterNodeInsertion_27 : decode cJ5_afterNodeInsertion 27 = .ok (.aload_n 3, 1) := dk_45 (dk_at dksJ5_afterNodeInsertion_1 5 rfl rfl)
theorem dJ5_afterNodeInsertion_28 : decode cJ5_afterNodeInsertion 28 = .ok (.invokestatic 57, 3) := dk_184 0 57 (dk_at dksJ5_afterNodeInsertion_1 6 rfl rfl)
theorem dJ5_afterNodeInsertion_31 : decode cJ5_afterNodeInsertion 31 = .ok (.aload_n 3, 1) := dk_45 (dk_at dksJ5_afterNodeInsertion_1 9 rfl rfl)
theorem dJ5_afterNodeInsertion_32 : decode cJ5_afterNodeInsertion 32 = .ok (.aconst_null, 1) := dk_1 (dk_at dksJ5_afterNodeInsertion_1 10 rfl rfl)
theorem dJ5_afterNodeInsertion_33 : decode cJ5_afterNodeInsertion 33 = .ok (.iconst 0, 1) := dk_3 (dk_at dksJ5_afterNodeInsertion_1 11 rfl rfl)
theorem dJ5_afterNodeInsertion_34 : decode cJ5_afterNodeInsertion 34 = .ok (.iconst 1, 1) := dk_4 (dk_at dksJ5_afterNodeInsertion_1 12 rfl rfl)
theorem dJ5_afterNodeInsertion_35 : decode cJ5_afterNodeInsertion 35 = .ok (.invokevirtual 60, 3) := dk_182 0 60 (dk_at dksJ5_afterNodeInsertion_1 13 rfl rfl)
theorem dJ5_afterNodeInsertion_38 : decode cJ5_afterNodeInsertion 38 = .ok (.pop, 1) := dk_87 (dk_at dksJ5_afterNodeInsertion_1 16 rfl rfl)
theorem dJ5_afterNodeInsertion_39 : decode cJ5_afterNodeInsertion 39 = .ok (.return_, 1) := dk_177 (dk_at dksJ5_afterNodeInsertion_1 17 rfl rfl)
abbrev iJ5_afterNodeInsertion : xM := (yJ5_afterNodeInsertion, cJ5_afterNodeInsertion, 4, none, [])
theorem mJ5_afterNodeInsertion : xOkM iJ5_afterNodeInsertion := ⟨by decide +kernel, by decide, q1913, q138⟩
abbrev cJ5_removeEldestEntry : ByteArray := prog_68_method_23_code
def yJ5_removeEldestEntry : MethodName := ⟨RJ5, "removeEldestEntry", "(Ljava/util/Map$Entry;)Z"⟩
theorem dJ5_removeEldestEntry_0 : decode cJ5_removeEldestEntry 0 = .ok (.iconst 0, 1) := by decide +kernel
theorem dJ5_removeEldestEntry_1 : decode cJ5_removeEldestEntry 1 = .ok (.ireturn, 1) := by decide +kernel
abbrev iJ5_removeEldestEntry : xM := (yJ5_removeEldestEntry, cJ5_removeEldestEntry, 2, (some .boolean), [])
theorem mJ5_removeEldestEntry : xOkM iJ5_removeEldestEntry := ⟨by decide +kernel, by decide, q1917, q138⟩
abbrev cJ5_entrySet : ByteArray := prog_68_method_32_code
def yJ5_entrySet : MethodName := ⟨RJ5, "entrySet", "()Ljava/util/Set;"⟩
theorem dJ5_entrySet_0 : decode cJ5_entrySet 0 = .ok (.aload_n 0, 1) := by decide +kernel
theorem dJ5_entrySet_1 : decode cJ5_entrySet 1 = .ok (.invokevirtual 148, 3) := by decide +kernel
theorem dJ5_entrySet_4 : decode cJ5_entrySet 4 = .ok (.areturn, 1) := by decide +kernel
abbrev iJ5_entrySet : xM := (yJ5_entrySet, cJ5_entrySet, 1, (some (.object "java/util/Set")), [])
theorem mJ5_entrySet : xOkM iJ5_entrySet := ⟨by decide +kernel, by decide, q2407, q138⟩
abbrev cJ5_sequencedEntrySet : ByteArray := prog_68_method_33_code
def yJ5_sequencedEntrySet : MethodName := ⟨RJ5, "sequencedEntrySet", "()Ljava/util/SequencedSet;"⟩
def dkwJ5_sequencedEntrySet_1 : List UInt8 := [44, 176, 43, 192, 0, 126, 176]
abbrev dktJ5_sequencedEntrySet_1 : List UInt8 := dkwJ5_sequencedEntrySet_1 ++ []
def dkwJ5_sequencedEntrySet_0 : List UInt8 := [42, 180, 0, 151, 76, 43, 199, 0, 20, 187, 0, 154, 89, 42, 3, 183, 0, 156, 77, 42, 44, 181, 0, 151]
abbrev dktJ5_sequencedEntrySet_0 : List UInt8 := dkwJ5_sequencedEntrySet_0 ++ dktJ5_sequencedEntrySet_1
theorem dksJ5_sequencedEntrySet_0 : cJ5_sequencedEntrySet.data.toList.drop 0 = dktJ5_sequencedEntrySet_0 := by decide +kernel
theorem dksJ5_sequencedEntrySet_1 : cJ5_sequencedEntrySet.data.toList.drop 24 = dktJ5_sequencedEntrySet_1 := dk_seg dksJ5_sequencedEntrySet_0 24 rfl rfl
theorem dJ5_sequencedEntrySet_0 : decode cJ5_sequencedEntrySet 0 = .ok (.aload_n 0, 1) := dk_42 (dk_at dksJ5_sequencedEntrySet_0 0 rfl rfl)
theorem dJ5_sequencedEntrySet_1 : decode cJ5_sequencedEntrySet 1 = .ok (.getfield 151, 3) := dk_180 0 151 (dk_at dksJ5_sequencedEntrySet_0 1 rfl rfl)
theorem dJ5_sequencedEntrySet_4 : decode cJ5_sequencedEntrySet 4 = .ok (.astore_n 1, 1) := dk_76 (dk_at dksJ5_sequencedEntrySet_0 4 rfl rfl)
theorem dJ5_sequencedEntrySet_5 : decode cJ5_sequencedEntrySet 5 = .ok (.aload_n 1, 1) := dk_43 (dk_at dksJ5_sequencedEntrySet_0 5 rfl rfl)
theorem dJ5_sequencedEntrySet_6 : decode cJ5_sequencedEntrySet 6 = .ok (.ifnonnull 20, 3) := dk_199 0 20 (dk_at dksJ5_sequencedEntrySet_0 6 rfl rfl)
theorem dJ5_sequencedEntrySet_9 : decode cJ5_sequencedEntrySet 9 = .ok (.new 154, 3) := dk_187 0 154 (dk_at dksJ5_sequencedEntrySet_0 9 rfl rfl)
theorem dJ5_sequencedEntrySet_12 : decode cJ5_sequencedEntrySet 12 = .ok (.dup, 1) := dk_89 (dk_at dksJ5_sequencedEntrySet_0 12 rfl rfl)
theorem dJ5_sequencedEntrySet_13 : decode cJ5_sequencedEntrySet 13 = .ok (.aload_n 0, 1) := dk_42 (dk_at dksJ5_sequencedEntrySet_0 13 rfl rfl)
theorem dJ5_sequencedEntrySet_14 : decode cJ5_sequencedEntrySet 14 = .ok (.iconst 0, 1) := dk_3 (dk_at dksJ5_sequencedEntrySet_0 14 rfl rfl)
theorem dJ5_sequencedEntrySet_15 : decode cJ5_sequencedEntrySet 15 = .ok (.invokespecial 156, 3) := dk_183 0 156 (dk_at dksJ5_sequencedEntrySet_0 15 rfl rfl)
theorem dJ5_sequencedEntrySet_18 : decode cJ5_sequencedEntrySet 18 = .ok (.astore_n 2, 1) := dk_77 (dk_at dksJ5_sequencedEntrySet_0 18 rfl rfl)
theorem dJ5_sequencedEntrySet_19 : decode cJ5_sequencedEntrySet 19 = .ok (.aload_n 0, 1) := dk_42 (dk_at dksJ5_sequencedEntrySet_0 19 rfl rfl)
theorem dJ5_sequencedEntrySet_20 : decode cJ5_sequencedEntrySet 20 = .ok (.aload_n 2, 1) := dk_44 (dk_at dksJ5_sequencedEntrySet_0 20 rfl rfl)
theorem dJ5_sequencedEntrySet_21 : decode cJ5_sequencedEntrySet 21 = .ok (.putfield 151, 3) := dk_181 0 151 (dk_at dksJ5_sequencedEntrySet_0 21 rfl rfl)
theorem dJ5_sequencedEntrySet_24 : decode cJ5_sequencedEntrySet 24 = .ok (.aload_n 2, 1) := dk_44 (dk_at dksJ5_sequencedEntrySet_1 0 rfl rfl)
theorem dJ5_sequencedEntrySet_25 : decode cJ5_sequencedEntrySet 25 = .ok (.areturn, 1) := dk_176 (dk_at dksJ5_sequencedEntrySet_1 1 rfl rfl)
theorem dJ5_sequencedEntrySet_26 : decode cJ5_sequencedEntrySet 26 = .ok (.aload_n 1, 1) := dk_43 (dk_at dksJ5_sequencedEntrySet_1 2 rfl rfl)
theorem dJ5_sequencedEntrySet_27 : decode cJ5_sequencedEntrySet 27 = .ok (.checkcast 126, 3) := dk_192 0 126 (dk_at dksJ5_sequencedEntrySet_1 3 rfl rfl)
theorem dJ5_sequencedEntrySet_30 : decode cJ5_sequencedEntrySet 30 = .ok (.areturn, 1) := dk_176 (dk_at dksJ5_sequencedEntrySet_1 6 rfl rfl)
abbrev iJ5_sequencedEntrySet : xM := (yJ5_sequencedEntrySet, cJ5_sequencedEntrySet, 3, (some (.object "java/util/SequencedSet")), [])
theorem mJ5_sequencedEntrySet : xOkM iJ5_sequencedEntrySet := ⟨by decide +kernel, by decide, q2411, q138⟩
abbrev cJ5_keySet : ByteArray := prog_68_method_24_code
def yJ5_keySet : MethodName := ⟨RJ5, "keySet", "()Ljava/util/Set;"⟩
theorem dJ5_keySet_0 : decode cJ5_keySet 0 = .ok (.aload_n 0, 1) := by decide +kernel
theorem dJ5_keySet_1 : decode cJ5_keySet 1 = .ok (.invokevirtual 113, 3) := by decide +kernel
theorem dJ5_keySet_4 : decode cJ5_keySet 4 = .ok (.areturn, 1) := by decide +kernel
abbrev iJ5_keySet : xM := (yJ5_keySet, cJ5_keySet, 1, (some (.object "java/util/Set")), [])
theorem mJ5_keySet : xOkM iJ5_keySet := ⟨by decide +kernel, by decide, q2521, q138⟩
abbrev cJ5_sequencedKeySet : ByteArray := prog_68_method_25_code
def yJ5_sequencedKeySet : MethodName := ⟨RJ5, "sequencedKeySet", "()Ljava/util/SequencedSet;"⟩
def dkwJ5_sequencedKeySet_1 : List UInt8 := [44, 176, 43, 192, 0, 126, 176]
abbrev dktJ5_sequencedKeySet_1 : List UInt8 := dkwJ5_sequencedKeySet_1 ++ []
def dkwJ5_sequencedKeySet_0 : List UInt8 := [42, 180, 0, 117, 76, 43, 199, 0, 20, 187, 0, 121, 89, 42, 3, 183, 0, 123, 77, 42, 44, 181, 0, 117]
abbrev dktJ5_sequencedKeySet_0 : List UInt8 := dkwJ5_sequencedKeySet_0 ++ dktJ5_sequencedKeySet_1
theorem dksJ5_sequencedKeySet_0 : cJ5_sequencedKeySet.data.toList.drop 0 = dktJ5_sequencedKeySet_0 := by decide +kernel
theorem dksJ5_sequencedKeySet_1 : cJ5_sequencedKeySet.data.toList.drop 24 = dktJ5_sequencedKeySet_1 := dk_seg dksJ5_sequencedKeySet_0 24 rfl rfl
theorem dJ5_sequencedKeySet_0 : decode cJ5_sequencedKeySet 0 = .ok (.aload_n 0, 1) := dk_42 (dk_at dksJ5_sequencedKeySet_0 0 rfl rfl)
theorem dJ5_sequencedKeySet_1 : decode cJ5_sequencedKeySet 1 = .ok (.getfield 117, 3) := dk_180 0 117 (dk_at dksJ5_sequencedKeySet_0 1 rfl rfl)
theorem dJ5_sequencedKeySet_4 : decode cJ5_sequencedKeySet 4 = .ok (.astore_n 1, 1) := dk_76 (dk_at dksJ5_sequencedKeySet_0 4 rfl rfl)
theorem dJ5_sequencedKeySet_5 : decode cJ5_sequencedKeySet 5 = .ok (.aload_n 1, 1) := dk_43 (dk_at dksJ5_sequencedKeySet_0 5 rfl rfl)
theorem dJ5_sequencedKeySet_6 : decode cJ5_sequencedKeySet 6 = .ok (.ifnonnull 20, 3) := dk_199 0 20 (dk_at dksJ5_sequencedKeySet_0 6 rfl rfl)
theorem dJ5_sequencedKeySet_9 : decode cJ5_sequencedKeySet 9 = .ok (.new 121, 3) := dk_187 0 121 (dk_at dksJ5_sequencedKeySet_0 9 rfl rfl)
theorem dJ5_sequencedKeySet_12 : decode cJ5_sequencedKeySet 12 = .ok (.dup, 1) := dk_89 (dk_at dksJ5_sequencedKeySet_0 12 rfl rfl)
theorem dJ5_sequencedKeySet_13 : decode cJ5_sequencedKeySet 13 = .ok (.aload_n 0, 1) := dk_42 (dk_at dksJ5_sequencedKeySet_0 13 rfl rfl)
theorem dJ5_sequencedKeySet_14 : decode cJ5_sequencedKeySet 14 = .ok (.iconst 0, 1) := dk_3 (dk_at dksJ5_sequencedKeySet_0 14 rfl rfl)
theorem dJ5_sequencedKeySet_15 : decode cJ5_sequencedKeySet 15 = .ok (.invokespecial 123, 3) := dk_183 0 123 (dk_at dksJ5_sequencedKeySet_0 15 rfl rfl)
theorem dJ5_sequencedKeySet_18 : decode cJ5_sequencedKeySet 18 = .ok (.astore_n 2, 1) := dk_77 (dk_at dksJ5_sequencedKeySet_0 18 rfl rfl)
theorem dJ5_sequencedKeySet_19 : decode cJ5_sequencedKeySet 19 = .ok (.aload_n 0, 1) := dk_42 (dk_at dksJ5_sequencedKeySet_0 19 rfl rfl)
theorem dJ5_sequencedKeySet_20 : decode cJ5_sequencedKeySet 20 = .ok (.aload_n 2, 1) := dk_44 (dk_at dksJ5_sequencedKeySet_0 20 rfl rfl)
theorem dJ5_sequencedKeySet_21 : decode cJ5_sequencedKeySet 21 = .ok (.putfield 117, 3) := dk_181 0 117 (dk_at dksJ5_sequencedKeySet_0 21 rfl rfl)
theorem dJ5_sequencedKeySet_24 : decode cJ5_sequencedKeySet 24 = .ok (.aload_n 2, 1) := dk_44 (dk_at dksJ5_sequencedKeySet_1 0 rfl rfl)
theorem dJ5_sequencedKeySet_25 : decode cJ5_sequencedKeySet 25 = .ok (.areturn, 1) := dk_176 (dk_at dksJ5_sequencedKeySet_1 1 rfl rfl)
theorem dJ5_sequencedKeySet_26 : decode cJ5_sequencedKeySet 26 = .ok (.aload_n 1, 1) := dk_43 (dk_at dksJ5_sequencedKeySet_1 2 rfl rfl)
theorem dJ5_sequencedKeySet_27 : decode cJ5_sequencedKeySet 27 = .ok (.checkcast 126, 3) := dk_192 0 126 (dk_at dksJ5_sequencedKeySet_1 3 rfl rfl)
theorem dJ5_sequencedKeySet_30 : decode cJ5_sequencedKeySet 30 = .ok (.areturn, 1) := dk_176 (dk_at dksJ5_sequencedKeySet_1 6 rfl rfl)
abbrev iJ5_sequencedKeySet : xM := (yJ5_sequencedKeySet, cJ5_sequencedKeySet, 3, (some (.object "java/util/SequencedSet")), [])
theorem mJ5_sequencedKeySet : xOkM iJ5_sequencedKeySet := ⟨by decide +kernel, by decide, q2525, q138⟩
abbrev cJ5_clear : ByteArray := prog_68_method_22_code
def yJ5_clear : MethodName := ⟨RJ5, "clear", "()V"⟩
def dkwJ5_clear_0 : List UInt8 := [42, 183, 0, 110, 42, 42, 1, 90, 181, 0, 11, 181, 0, 7, 177]
abbrev dktJ5_clear_0 : List UInt8 := dkwJ5_clear_0 ++ []
theorem dksJ5_clear_0 : cJ5_clear.data.toList.drop 0 = dktJ5_clear_0 := by decide +kernel
theorem dJ5_clear_0 : decode cJ5_clear 0 = .ok (.aload_n 0, 1) := dk_42 (dk_at dksJ5_clear_0 0 rfl rfl)
theorem dJ5_clear_1 : decode cJ5_clear 1 = .ok (.invokespecial 110, 3) := dk_183 0 110 (dk_at dksJ5_clear_0 1 rfl rfl)
theorem dJ5_clear_4 : decode cJ5_clear 4 = .ok (.aload_n 0, 1) := dk_42 (dk_at dksJ5_clear_0 4 rfl rfl)
theorem dJ5_clear_5 : decode cJ5_clear 5 = .ok (.aload_n 0, 1) := dk_42 (dk_at dksJ5_clear_0 5 rfl rfl)
theorem dJ5_clear_6 : decode cJ5_clear 6 = .ok (.aconst_null, 1) := dk_1 (dk_at dksJ5_clear_0 6 rfl rfl)
theorem dJ5_clear_7 : decode cJ5_clear 7 = .ok (.dup_x1, 1) := dk_90 (dk_at dksJ5_clear_0 7 rfl rfl)
theorem dJ5_clear_8 : decode cJ5_clear 8 = .ok (.putfield 11, 3) := dk_181 0 11 (dk_at dksJ5_clear_0 8 rfl rfl)
theorem dJ5_clear_11 : decode cJ5_clear 11 = .ok (.putfield 7, 3) := dk_181 0 7 (dk_at dksJ5_clear_0 11 rfl rfl)
theorem dJ5_clear_14 : decode cJ5_clear 14 = .ok (.return_, 1) := dk_177 (dk_at dksJ5_clear_0 14 rfl rfl)
abbrev iJ5_clear : xM := (yJ5_clear, cJ5_clear, 1, none, [])
theorem mJ5_clear : xOkM iJ5_clear := ⟨by decide +kernel, by decide, q2655, q138⟩
abbrev cJ5_get : ByteArray := prog_68_method_20_code
def yJ5_get : MethodName := ⟨RJ5, "get", "(Ljava/lang/Object;)Ljava/lang/Object;"⟩
def dkwJ5_get_1 : List UInt8 := [44, 180, 0, 107, 176]
abbrev dktJ5_get_1 : List UInt8 := dkwJ5_get_1 ++ []
def dkwJ5_get_0 : List UInt8 := [42, 43, 182, 0, 99, 89, 77, 199, 0, 5, 1, 176, 42, 180, 0, 64, 153, 0, 8, 42, 44, 182, 0, 103]
abbrev dktJ5_get_0 : List UInt8 := dkwJ5_get_0 ++ dktJ5_get_1
theorem dksJ5_get_0 : cJ5_get.data.toList.drop 0 = dktJ5_get_0 := by decide +kernel
theorem dksJ5_get_1 : cJ5_get.data.toList.drop 24 = dktJ5_get_1 := dk_seg dksJ5_get_0 24 rfl rfl
theorem dJ5_get_0 : decode cJ5_get 0 = .ok (.aload_n 0, 1) := dk_42 (dk_at dksJ5_get_0 0 rfl rfl)
theorem dJ5_get_1 : decode cJ5_get 1 = .ok (.aload_n 1, 1) := dk_43 (dk_at dksJ5_get_0 1 rfl rfl)
theorem dJ5_get_2 : decode cJ5_get 2 = .ok (.invokevirtual 99, 3) := dk_182 0 99 (dk_at dksJ5_get_0 2 rfl rfl)
theorem dJ5_get_5 : decode cJ5_get 5 = .ok (.dup, 1) := dk_89 (dk_at dksJ5_get_0 5 rfl rfl)
theorem dJ5_get_6 : decode cJ5_get 6 = .ok (.astore_n 2, 1) := dk_77 (dk_at dksJ5_get_0 6 rfl rfl)
theorem dJ5_get_7 : decode cJ5_get 7 = .ok (.ifnonnull 5, 3) := dk_199 0 5 (dk_at dksJ5_get_0 7 rfl rfl)
theorem dJ5_get_10 : decode cJ5_get 10 = .ok (.aconst_null, 1) := dk_1 (dk_at dksJ5_get_0 10 rfl rfl)
theorem dJ5_get_11 : decode cJ5_get 11 = .ok (.areturn, 1) := dk_176 (dk_at dksJ5_get_0 11 rfl rfl)
theorem dJ5_get_12 : decode cJ5_get 12 = .ok (.aload_n 0, 1) := dk_42 (dk_at dksJ5_get_0 12 rfl rfl)
theorem dJ5_get_13 : decode cJ5_get 13 = .ok (.getfield 64, 3) := dk_180 0 64 (dk_at dksJ5_get_0 13 rfl rfl)
theorem dJ5_get_16 : decode cJ5_get 16 = .ok (.ifCond .eq 8, 3) := dk_153 0 8 (dk_at dksJ5_get_0 16 rfl rfl)
theorem dJ5_get_19 : decode cJ5_get 19 = .ok (.aload_n 0, 1) := dk_42 (dk_at dksJ5_get_0 19 rfl rfl)
theorem dJ5_get_20 : decode cJ5_get 20 = .ok (.aload_n 2, 1) := dk_44 (dk_at dksJ5_get_0 20 rfl rfl)
theorem dJ5_get_21 : decode cJ5_get 21 = .ok (.invokevirtual 103, 3) := dk_182 0 103 (dk_at dksJ5_get_0 21 rfl rfl)
theorem dJ5_get_24 : decode cJ5_get 24 = .ok (.aload_n 2, 1) := dk_44 (dk_at dksJ5_get_1 0 rfl rfl)
theorem dJ5_get_25 : decode cJ5_get 25 = .ok (.getfield 107, 3) := dk_180 0 107 (dk_at dksJ5_get_1 1 rfl rfl)
theorem dJ5_get_28 : decode cJ5_get 28 = .ok (.areturn, 1) := dk_176 (dk_at dksJ5_get_1 4 rfl rfl)
abbrev iJ5_get : xM := (yJ5_get, cJ5_get, 3, (some (.object "java/lang/Object")), [])
theorem mJ5_get : xOkM iJ5_get := ⟨by decide +kernel, by decide, q2674, q138⟩
abbrev cJ5_values : ByteArray := prog_68_method_30_code
def yJ5_values : MethodName := ⟨RJ5, "values", "()Ljava/util/Collection;"⟩
theorem dJ5_values_0 : decode cJ5_values 0 = .ok (.aload_n 0, 1) := by decide +kernel
theorem dJ5_values_1 : decode cJ5_values 1 = .ok (.invokevirtual 135, 3) := by decide +kernel
theorem dJ5_values_4 : decode cJ5_values 4 = .ok (.areturn, 1) := by decide +kernel
abbrev iJ5_values : xM := (yJ5_values, cJ5_values, 1, (some (.object "java/util/Collection")), [])
theorem mJ5_values : xOkM iJ5_values := ⟨by decide +kernel, by decide, q2982, q138⟩
abbrev cJ5_sequencedValues : ByteArray := prog_68_method_31_code
def yJ5_sequencedValues : MethodName := ⟨RJ5, "sequencedValues", "()Ljava/util/SequencedCollection;"⟩
def dkwJ5_sequencedValues_1 : List UInt8 := [44, 176, 43, 192, 0, 146, 176]
abbrev dktJ5_sequencedValues_1 : List UInt8 := dkwJ5_sequencedValues_1 ++ []
def dkwJ5_sequencedValues_0 : List UInt8 := [42, 180, 0, 139, 76, 43, 199, 0, 20, 187, 0, 143, 89, 42, 3, 183, 0, 145, 77, 42, 44, 181, 0, 139]
abbrev dktJ5_sequencedValues_0 : List UInt8 := dkwJ5_sequencedValues_0 ++ dktJ5_sequencedValues_1
theorem dksJ5_sequencedValues_0 : cJ5_sequencedValues.data.toList.drop 0 = dktJ5_sequencedValues_0 := by decide +kernel
theorem dksJ5_sequencedValues_1 : cJ5_sequencedValues.data.toList.drop 24 = dktJ5_sequencedValues_1 := dk_seg dksJ5_sequencedValues_0 24 rfl rfl
theorem dJ5_sequencedValues_0 : decode cJ5_sequencedValues 0 = .ok (.aload_n 0, 1) := dk_42 (dk_at dksJ5_sequencedValues_0 0 rfl rfl)
theorem dJ5_sequencedValues_1 : decode cJ5_sequencedValues 1 = .ok (.getfield 139, 3) := dk_180 0 139 (dk_at dksJ5_sequencedValues_0 1 rfl rfl)
theorem dJ5_sequencedValues_4 : decode cJ5_sequencedValues 4 = .ok (.astore_n 1, 1) := dk_76 (dk_at dksJ5_sequencedValues_0 4 rfl rfl)
theorem dJ5_sequencedValues_5 : decode cJ5_sequencedValues 5 = .ok (.aload_n 1, 1) := dk_43 (dk_at dksJ5_sequencedValues_0 5 rfl rfl)
theorem dJ5_sequencedValues_6 : decode cJ5_sequencedValues 6 = .ok (.ifnonnull 20, 3) := dk_199 0 20 (dk_at dksJ5_sequencedValues_0 6 rfl rfl)
theorem dJ5_sequencedValues_9 : decode cJ5_sequencedValues 9 = .ok (.new 143, 3) := dk_187 0 143 (dk_at dksJ5_sequencedValues_0 9 rfl rfl)
theorem dJ5_sequencedValues_12 : decode cJ5_sequencedValues 12 = .ok (.dup, 1) := dk_89 (dk_at dksJ5_sequencedValues_0 12 rfl rfl)
theorem dJ5_sequencedValues_13 : decode cJ5_sequencedValues 13 = .ok (.aload_n 0, 1) := dk_42 (dk_at dksJ5_sequencedValues_0 13 rfl rfl)
theorem dJ5_sequencedValues_14 : decode cJ5_sequencedValues 14 = .ok (.iconst 0, 1) := dk_3 (dk_at dksJ5_sequencedValues_0 14 rfl rfl)
theorem dJ5_sequencedValues_15 : decode cJ5_sequencedValues 15 = .ok (.invokespecial 145, 3) := dk_183 0 145 (dk_at dksJ5_sequencedValues_0 15 rfl rfl)
theorem dJ5_sequencedValues_18 : decode cJ5_sequencedValues 18 = .ok (.astore_n 2, 1) := dk_77 (dk_at dksJ5_sequencedValues_0 18 rfl rfl)
theorem dJ5_sequencedValues_19 : decode cJ5_sequencedValues 19 = .ok (.aload_n 0, 1) := dk_42 (dk_at dksJ5_sequencedValues_0 19 rfl rfl)
theorem dJ5_sequencedValues_20 : decode cJ5_sequencedValues 20 = .ok (.aload_n 2, 1) := dk_44 (dk_at dksJ5_sequencedValues_0 20 rfl rfl)
theorem dJ5_sequencedValues_21 : decode cJ5_sequencedValues 21 = .ok (.putfield 139, 3) := dk_181 0 139 (dk_at dksJ5_sequencedValues_0 21 rfl rfl)
theorem dJ5_sequencedValues_24 : decode cJ5_sequencedValues 24 = .ok (.aload_n 2, 1) := dk_44 (dk_at dksJ5_sequencedValues_1 0 rfl rfl)
theorem dJ5_sequencedValues_25 : decode cJ5_sequencedValues 25 = .ok (.areturn, 1) := dk_176 (dk_at dksJ5_sequencedValues_1 1 rfl rfl)
theorem dJ5_sequencedValues_26 : decode cJ5_sequencedValues 26 = .ok (.aload_n 1, 1) := dk_43 (dk_at dksJ5_sequencedValues_1 2 rfl rfl)
theorem dJ5_sequencedValues_27 : decode cJ5_sequencedValues 27 = .ok (.checkcast 146, 3) := dk_192 0 146 (dk_at dksJ5_sequencedValues_1 3 rfl rfl)
theorem dJ5_sequencedValues_30 : decode cJ5_sequencedValues 30 = .ok (.areturn, 1) := dk_176 (dk_at dksJ5_sequencedValues_1 6 rfl rfl)
abbrev iJ5_sequencedValues : xM := (yJ5_sequencedValues, cJ5_sequencedValues, 3, (some (.object "java/util/SequencedCollection")), [])
theorem mJ5_sequencedValues : xOkM iJ5_sequencedValues := ⟨by decide +kernel, by decide, q2986, q138⟩
abbrev cJ6_init : ByteArray := prog_52_method_1_code
def yJ6_init : MethodName := ⟨RJ6, "<init>", "()V"⟩
theorem dJ6_init_0 : decode cJ6_init 0 = .ok (.aload_n 0, 1) := by decide +kernel
theorem dJ6_init_1 : decode cJ6_init 1 = .ok (.invokespecial 1, 3) := by decide +kernel
theorem dJ6_init_4 : decode cJ6_init 4 = .ok (.return_, 1) := by decide +kernel
abbrev iJ6_init : xM := (yJ6_init, cJ6_init, 1, none, [])
theorem mJ6_init : xOkM iJ6_init := ⟨by decide +kernel, by decide, q321, q139⟩
abbrev cJ7_init : ByteArray := prog_66_method_5_code
def yJ7_init : MethodName := ⟨RJ7, "<init>", "(IFZ)V"⟩
def dkwJ7_init_0 : List UInt8 := [42, 183, 0, 1, 42, 187, 0, 42, 89, 27, 36, 183, 0, 44, 181, 0, 10, 177]
abbrev dktJ7_init_0 : List UInt8 := dkwJ7_init_0 ++ []
theorem dksJ7_init_0 : cJ7_init.data.toList.drop 0 = dktJ7_init_0 := by decide +kernel
theorem dJ7_init_0 : decode cJ7_init 0 = .ok (.aload_n 0, 1) := dk_42 (dk_at dksJ7_init_0 0 rfl rfl)
theorem dJ7_init_1 : decode cJ7_init 1 = .ok (.invokespecial 1, 3) := dk_183 0 1 (dk_at dksJ7_init_0 1 rfl rfl)
theorem dJ7_init_4 : decode cJ7_init 4 = .ok (.aload_n 0, 1) := dk_42 (dk_at dksJ7_init_0 4 rfl rfl)
theorem dJ7_init_5 : decode cJ7_init 5 = .ok (.new 42, 3) := dk_187 0 42 (dk_at dksJ7_init_0 5 rfl rfl)
theorem dJ7_init_8 : decode cJ7_init 8 = .ok (.dup, 1) := dk_89 (dk_at dksJ7_init_0 8 rfl rfl)
theorem dJ7_init_9 : decode cJ7_init 9 = .ok (.iload_n 1, 1) := dk_27 (dk_at dksJ7_init_0 9 rfl rfl)
theorem dJ7_init_10 : decode cJ7_init 10 = .ok (.fload_n 2, 1) := dk_36 (dk_at dksJ7_init_0 10 rfl rfl)
theorem dJ7_init_11 : decode cJ7_init 11 = .ok (.invokespecial 44, 3) := dk_183 0 44 (dk_at dksJ7_init_0 11 rfl rfl)
theorem dJ7_init_14 : decode cJ7_init 14 = .ok (.putfield 10, 3) := dk_181 0 10 (dk_at dksJ7_init_0 14 rfl rfl)
theorem dJ7_init_17 : decode cJ7_init 17 = .ok (.return_, 1) := dk_177 (dk_at dksJ7_init_0 17 rfl rfl)
abbrev iJ7_init : xM := (yJ7_init, cJ7_init, 4, none, [])
theorem mJ7_init : xOkM iJ7_init := ⟨by decide +kernel, by decide, q318, q140⟩
abbrev cJ7_iterator : ByteArray := prog_66_method_6_code
def yJ7_iterator : MethodName := ⟨RJ7, "iterator", "()Ljava/util/Iterator;"⟩
def dkwJ7_iterator_0 : List UInt8 := [42, 180, 0, 10, 182, 0, 45, 185, 0, 49, 1, 0, 176]
abbrev dktJ7_iterator_0 : List UInt8 := dkwJ7_iterator_0 ++ []
theorem dksJ7_iterator_0 : cJ7_iterator.data.toList.drop 0 = dktJ7_iterator_0 := by decide +kernel
theorem dJ7_iterator_0 : decode cJ7_iterator 0 = .ok (.aload_n 0, 1) := dk_42 (dk_at dksJ7_iterator_0 0 rfl rfl)
theorem dJ7_iterator_1 : decode cJ7_iterator 1 = .ok (.getfield 10, 3) := dk_180 0 10 (dk_at dksJ7_iterator_0 1 rfl rfl)
theorem dJ7_iterator_4 : decode cJ7_iterator 4 = .ok (.invokevirtual 45, 3) := dk_182 0 45 (dk_at dksJ7_iterator_0 4 rfl rfl)
theorem dJ7_iterator_7 : decode cJ7_iterator 7 = .ok (.invokeinterface 49 1, 5) := by decide +kernel
theorem dJ7_iterator_12 : decode cJ7_iterator 12 = .ok (.areturn, 1) := dk_176 (dk_at dksJ7_iterator_0 12 rfl rfl)
abbrev iJ7_iterator : xM := (yJ7_iterator, cJ7_iterator, 1, (some (.object "java/util/Iterator")), [])
theorem mJ7_iterator : xOkM iJ7_iterator := ⟨by decide +kernel, by decide, q2515, q140⟩
abbrev cJ7_add : ByteArray := prog_66_method_10_code
def yJ7_add : MethodName := ⟨RJ7, "add", "(Ljava/lang/Object;)Z"⟩
def dkwJ7_add_0 : List UInt8 := [42, 180, 0, 10, 43, 178, 0, 64, 182, 0, 68, 199, 0, 7, 4, 167, 0, 4, 3, 172]
abbrev dktJ7_add_0 : List UInt8 := dkwJ7_add_0 ++ []
theorem dksJ7_add_0 : cJ7_add.data.toList.drop 0 = dktJ7_add_0 := by decide +kernel
theorem dJ7_add_0 : decode cJ7_add 0 = .ok (.aload_n 0, 1) := dk_42 (dk_at dksJ7_add_0 0 rfl rfl)
theorem dJ7_add_1 : decode cJ7_add 1 = .ok (.getfield 10, 3) := dk_180 0 10 (dk_at dksJ7_add_0 1 rfl rfl)
theorem dJ7_add_4 : decode cJ7_add 4 = .ok (.aload_n 1, 1) := dk_43 (dk_at dksJ7_add_0 4 rfl rfl)
theorem dJ7_add_5 : decode cJ7_add 5 = .ok (.getstatic 64, 3) := dk_178 0 64 (dk_at dksJ7_add_0 5 rfl rfl)
theorem dJ7_add_8 : decode cJ7_add 8 = .ok (.invokevirtual 68, 3) := dk_182 0 68 (dk_at dksJ7_add_0 8 rfl rfl)
theorem dJ7_add_11 : decode cJ7_add 11 = .ok (.ifnonnull 7, 3) := dk_199 0 7 (dk_at dksJ7_add_0 11 rfl rfl)
theorem dJ7_add_14 : decode cJ7_add 14 = .ok (.iconst 1, 1) := dk_4 (dk_at dksJ7_add_0 14 rfl rfl)
theorem dJ7_add_15 : decode cJ7_add 15 = .ok (.goto 4, 3) := dk_167 0 4 (dk_at dksJ7_add_0 15 rfl rfl)
theorem dJ7_add_18 : decode cJ7_add 18 = .ok (.iconst 0, 1) := dk_3 (dk_at dksJ7_add_0 18 rfl rfl)
theorem dJ7_add_19 : decode cJ7_add 19 = .ok (.ireturn, 1) := dk_172 (dk_at dksJ7_add_0 19 rfl rfl)
abbrev iJ7_add : xM := (yJ7_add, cJ7_add, 2, (some .boolean), [])
theorem mJ7_add : xOkM iJ7_add := ⟨by decide +kernel, by decide, q2583, q140⟩
abbrev cJ7_clear : ByteArray := prog_66_method_12_code
def yJ7_clear : MethodName := ⟨RJ7, "clear", "()V"⟩
def dkwJ7_clear_0 : List UInt8 := [42, 180, 0, 10, 182, 0, 76, 177]
abbrev dktJ7_clear_0 : List UInt8 := dkwJ7_clear_0 ++ []
theorem dksJ7_clear_0 : cJ7_clear.data.toList.drop 0 = dktJ7_clear_0 := by decide +kernel
theorem dJ7_clear_0 : decode cJ7_clear 0 = .ok (.aload_n 0, 1) := dk_42 (dk_at dksJ7_clear_0 0 rfl rfl)
theorem dJ7_clear_1 : decode cJ7_clear 1 = .ok (.getfield 10, 3) := dk_180 0 10 (dk_at dksJ7_clear_0 1 rfl rfl)
theorem dJ7_clear_4 : decode cJ7_clear 4 = .ok (.invokevirtual 76, 3) := dk_182 0 76 (dk_at dksJ7_clear_0 4 rfl rfl)
theorem dJ7_clear_7 : decode cJ7_clear 7 = .ok (.return_, 1) := dk_177 (dk_at dksJ7_clear_0 7 rfl rfl)
abbrev iJ7_clear : xM := (yJ7_clear, cJ7_clear, 1, none, [])
theorem mJ7_clear : xOkM iJ7_clear := ⟨by decide +kernel, by decide, q2649, q140⟩
abbrev cJ7_size : ByteArray := prog_66_method_7_code
def yJ7_size : MethodName := ⟨RJ7, "size", "()I"⟩
def dkwJ7_size_0 : List UInt8 := [42, 180, 0, 10, 182, 0, 55, 172]
abbrev dktJ7_size_0 : List UInt8 := dkwJ7_size_0 ++ []
theorem dksJ7_size_0 : cJ7_size.data.toList.drop 0 = dktJ7_size_0 := by decide +kernel
theorem dJ7_size_0 : decode cJ7_size 0 = .ok (.aload_n 0, 1) := dk_42 (dk_at dksJ7_size_0 0 rfl rfl)
theorem dJ7_size_1 : decode cJ7_size 1 = .ok (.getfield 10, 3) := dk_180 0 10 (dk_at dksJ7_size_0 1 rfl rfl)
theorem dJ7_size_4 : decode cJ7_size 4 = .ok (.invokevirtual 55, 3) := dk_182 0 55 (dk_at dksJ7_size_0 4 rfl rfl)
theorem dJ7_size_7 : decode cJ7_size 7 = .ok (.ireturn, 1) := dk_172 (dk_at dksJ7_size_0 7 rfl rfl)
abbrev iJ7_size : xM := (yJ7_size, cJ7_size, 1, (some .int), [])
theorem mJ7_size : xOkM iJ7_size := ⟨by decide +kernel, by decide, q3073, q140⟩
abbrev cJ8_init : ByteArray := prog_77_method_3_code
def yJ8_init : MethodName := ⟨RJ8, "<init>", "()V"⟩
def dkwJ8_init_0 : List UInt8 := [42, 16, 16, 18, 7, 4, 183, 0, 1, 177]
abbrev dktJ8_init_0 : List UInt8 := dkwJ8_init_0 ++ []
theorem dksJ8_init_0 : cJ8_init.data.toList.drop 0 = dktJ8_init_0 := by decide +kernel
theorem dJ8_init_0 : decode cJ8_init 0 = .ok (.aload_n 0, 1) := dk_42 (dk_at dksJ8_init_0 0 rfl rfl)
theorem dJ8_init_1 : decode cJ8_init 1 = .ok (.bipush 16, 2) := dk_16 16 (dk_at dksJ8_init_0 1 rfl rfl)
theorem dJ8_init_3 : decode cJ8_init 3 = .ok (.ldc 7, 2) := dk_18 7 (dk_at dksJ8_init_0 3 rfl rfl)
theorem dJ8_init_5 : decode cJ8_init 5 = .ok (.iconst 1, 1) := dk_4 (dk_at dksJ8_init_0 5 rfl rfl)
theorem dJ8_init_6 : decode cJ8_init 6 = .ok (.invokespecial 1, 3) := dk_183 0 1 (dk_at dksJ8_init_0 6 rfl rfl)
theorem dJ8_init_9 : decode cJ8_init 9 = .ok (.return_, 1) := dk_177 (dk_at dksJ8_init_0 9 rfl rfl)
abbrev iJ8_init : xM := (yJ8_init, cJ8_init, 1, none, [])
theorem mJ8_init : xOkM iJ8_init := ⟨by decide +kernel, by decide, q314, q141⟩
abbrev cJ31_init : ByteArray := prog_64_method_1_code
def yJ31_init : MethodName := ⟨RJ31, "<init>", "(ILjava/lang/Object;Ljava/lang/Object;Ljava/util/HashMap$Node;)V"⟩
def dkwJ31_init_1 : List UInt8 := [181, 0, 20, 177]
abbrev dktJ31_init_1 : List UInt8 := dkwJ31_init_1 ++ []
def dkwJ31_init_0 : List UInt8 := [42, 183, 0, 1, 42, 27, 181, 0, 7, 42, 44, 181, 0, 13, 42, 45, 181, 0, 17, 42, 25, 4]
abbrev dktJ31_init_0 : List UInt8 := dkwJ31_init_0 ++ dktJ31_init_1
theorem dksJ31_init_0 : cJ31_init.data.toList.drop 0 = dktJ31_init_0 := by decide +kernel
theorem dksJ31_init_1 : cJ31_init.data.toList.drop 22 = dktJ31_init_1 := dk_seg dksJ31_init_0 22 rfl rfl
theorem dJ31_init_0 : decode cJ31_init 0 = .ok (.aload_n 0, 1) := dk_42 (dk_at dksJ31_init_0 0 rfl rfl)
theorem dJ31_init_1 : decode cJ31_init 1 = .ok (.invokespecial 1, 3) := dk_183 0 1 (dk_at dksJ31_init_0 1 rfl rfl)
theorem dJ31_init_4 : decode cJ31_init 4 = .ok (.aload_n 0, 1) := dk_42 (dk_at dksJ31_init_0 4 rfl rfl)
theorem dJ31_init_5 : decode cJ31_init 5 = .ok (.iload_n 1, 1) := dk_27 (dk_at dksJ31_init_0 5 rfl rfl)
theorem dJ31_init_6 : decode cJ31_init 6 = .ok (.putfield 7, 3) := dk_181 0 7 (dk_at dksJ31_init_0 6 rfl rfl)
theorem dJ31_init_9 : decode cJ31_init 9 = .ok (.aload_n 0, 1) := dk_42 (dk_at dksJ31_init_0 9 rfl rfl)
theorem dJ31_init_10 : decode cJ31_init 10 = .ok (.aload_n 2, 1) := dk_44 (dk_at dksJ31_init_0 10 rfl rfl)
theorem dJ31_init_11 : decode cJ31_init 11 = .ok (.putfield 13, 3) := dk_181 0 13 (dk_at dksJ31_init_0 11 rfl rfl)
theorem dJ31_init_14 : decode cJ31_init 14 = .ok (.aload_n 0, 1) := dk_42 (dk_at dksJ31_init_0 14 rfl rfl)
theorem dJ31_init_15 : decode cJ31_init 15 = .ok (.aload_n 3, 1) := dk_45 (dk_at dksJ31_init_0 15 rfl rfl)
theorem dJ31_init_16 : decode cJ31_init 16 = .ok (.putfield 17, 3) := dk_181 0 17 (dk_at dksJ31_init_0 16 rfl rfl)
theorem dJ31_init_19 : decode cJ31_init 19 = .ok (.aload_n 0, 1) := dk_42 (dk_at dksJ31_init_0 19 rfl rfl)
theorem dJ31_init_20 : decode cJ31_init 20 = .ok (.aload 4, 2) := dk_25 4 (dk_at dksJ31_init_0 20 rfl rfl)
theorem dJ31_init_22 : decode cJ31_init 22 = .ok (.putfield 20, 3) := dk_181 0 20 (dk_at dksJ31_init_1 0 rfl rfl)
theorem dJ31_init_25 : decode cJ31_init 25 = .ok (.return_, 1) := dk_177 (dk_at dksJ31_init_1 3 rfl rfl)
abbrev iJ31_init : xM := (yJ31_init, cJ31_init, 5, none, [])
theorem mJ31_init : xOkM iJ31_init := ⟨by decide +kernel, by decide, q1494, q168⟩
abbrev cJ31_getKey : ByteArray := prog_64_method_2_code
def yJ31_getKey : MethodName := ⟨RJ31, "getKey", "()Ljava/lang/Object;"⟩
theorem dJ31_getKey_0 : decode cJ31_getKey 0 = .ok (.aload_n 0, 1) := by decide +kernel
theorem dJ31_getKey_1 : decode cJ31_getKey 1 = .ok (.getfield 13, 3) := by decide +kernel
theorem dJ31_getKey_4 : decode cJ31_getKey 4 = .ok (.areturn, 1) := by decide +kernel
abbrev iJ31_getKey : xM := (yJ31_getKey, cJ31_getKey, 1, (some (.object "java/lang/Object")), [])
theorem mJ31_getKey : xOkM iJ31_getKey := ⟨by decide +kernel, by decide, q2390, q168⟩
abbrev cJ31_getValue : ByteArray := prog_64_method_3_code
def yJ31_getValue : MethodName := ⟨RJ31, "getValue", "()Ljava/lang/Object;"⟩
theorem dJ31_getValue_0 : decode cJ31_getValue 0 = .ok (.aload_n 0, 1) := by decide +kernel
theorem dJ31_getValue_1 : decode cJ31_getValue 1 = .ok (.getfield 17, 3) := by decide +kernel
theorem dJ31_getValue_4 : decode cJ31_getValue 4 = .ok (.areturn, 1) := by decide +kernel
abbrev iJ31_getValue : xM := (yJ31_getValue, cJ31_getValue, 1, (some (.object "java/lang/Object")), [])
theorem mJ31_getValue : xOkM iJ31_getValue := ⟨by decide +kernel, by decide, q2565, q168⟩
abbrev cJ32_init : ByteArray := prog_69_method_1_code
def yJ32_init : MethodName := ⟨RJ32, "<init>", "(ILjava/lang/Object;Ljava/lang/Object;Ljava/util/HashMap$Node;)V"⟩
def dkwJ32_init_0 : List UInt8 := [42, 27, 44, 45, 25, 4, 183, 0, 1, 177]
abbrev dktJ32_init_0 : List UInt8 := dkwJ32_init_0 ++ []
theorem dksJ32_init_0 : cJ32_init.data.toList.drop 0 = dktJ32_init_0 := by decide +kernel
theorem dJ32_init_0 : decode cJ32_init 0 = .ok (.aload_n 0, 1) := dk_42 (dk_at dksJ32_init_0 0 rfl rfl)
theorem dJ32_init_1 : decode cJ32_init 1 = .ok (.iload_n 1, 1) := dk_27 (dk_at dksJ32_init_0 1 rfl rfl)
theorem dJ32_init_2 : decode cJ32_init 2 = .ok (.aload_n 2, 1) := dk_44 (dk_at dksJ32_init_0 2 rfl rfl)
theorem dJ32_init_3 : decode cJ32_init 3 = .ok (.aload_n 3, 1) := dk_45 (dk_at dksJ32_init_0 3 rfl rfl)
theorem dJ32_init_4 : decode cJ32_init 4 = .ok (.aload 4, 2) := dk_25 4 (dk_at dksJ32_init_0 4 rfl rfl)
theorem dJ32_init_6 : decode cJ32_init 6 = .ok (.invokespecial 1, 3) := dk_183 0 1 (dk_at dksJ32_init_0 6 rfl rfl)
theorem dJ32_init_9 : decode cJ32_init 9 = .ok (.return_, 1) := dk_177 (dk_at dksJ32_init_0 9 rfl rfl)
abbrev iJ32_init : xM := (yJ32_init, cJ32_init, 5, none, [])
theorem mJ32_init : xOkM iJ32_init := ⟨by decide +kernel, by decide, q1491, q169⟩
abbrev cJ39_init : ByteArray := prog_71_method_1_code
def yJ39_init : MethodName := ⟨RJ39, "<init>", "(Ljava/util/LinkedHashMap;Z)V"⟩
def dkwJ39_init_0 : List UInt8 := [42, 43, 181, 0, 1, 42, 183, 0, 7, 42, 28, 181, 0, 13, 177]
abbrev dktJ39_init_0 : List UInt8 := dkwJ39_init_0 ++ []
theorem dksJ39_init_0 : cJ39_init.data.toList.drop 0 = dktJ39_init_0 := by decide +kernel
theorem dJ39_init_0 : decode cJ39_init 0 = .ok (.aload_n 0, 1) := dk_42 (dk_at dksJ39_init_0 0 rfl rfl)
theorem dJ39_init_1 : decode cJ39_init 1 = .ok (.aload_n 1, 1) := dk_43 (dk_at dksJ39_init_0 1 rfl rfl)
theorem dJ39_init_2 : decode cJ39_init 2 = .ok (.putfield 1, 3) := dk_181 0 1 (dk_at dksJ39_init_0 2 rfl rfl)
theorem dJ39_init_5 : decode cJ39_init 5 = .ok (.aload_n 0, 1) := dk_42 (dk_at dksJ39_init_0 5 rfl rfl)
theorem dJ39_init_6 : decode cJ39_init 6 = .ok (.invokespecial 7, 3) := dk_183 0 7 (dk_at dksJ39_init_0 6 rfl rfl)
theorem dJ39_init_9 : decode cJ39_init 9 = .ok (.aload_n 0, 1) := dk_42 (dk_at dksJ39_init_0 9 rfl rfl)
theorem dJ39_init_10 : decode cJ39_init 10 = .ok (.iload_n 2, 1) := dk_28 (dk_at dksJ39_init_0 10 rfl rfl)
theorem dJ39_init_11 : decode cJ39_init 11 = .ok (.putfield 13, 3) := dk_181 0 13 (dk_at dksJ39_init_0 11 rfl rfl)
theorem dJ39_init_14 : decode cJ39_init 14 = .ok (.return_, 1) := dk_177 (dk_at dksJ39_init_0 14 rfl rfl)
abbrev iJ39_init : xM := (yJ39_init, cJ39_init, 3, none, [])
theorem mJ39_init : xOkM iJ39_init := ⟨by decide +kernel, by decide, q2416, q183⟩
abbrev cJ39_iterator : ByteArray := prog_71_method_4_code
def yJ39_iterator : MethodName := ⟨RJ39, "iterator", "()Ljava/util/Iterator;"⟩
def dkwJ39_iterator_0 : List UInt8 := [187, 0, 26, 89, 42, 180, 0, 1, 42, 180, 0, 13, 183, 0, 28, 176]
abbrev dktJ39_iterator_0 : List UInt8 := dkwJ39_iterator_0 ++ []
theorem dksJ39_iterator_0 : cJ39_iterator.data.toList.drop 0 = dktJ39_iterator_0 := by decide +kernel
theorem dJ39_iterator_0 : decode cJ39_iterator 0 = .ok (.new 26, 3) := dk_187 0 26 (dk_at dksJ39_iterator_0 0 rfl rfl)
theorem dJ39_iterator_3 : decode cJ39_iterator 3 = .ok (.dup, 1) := dk_89 (dk_at dksJ39_iterator_0 3 rfl rfl)
theorem dJ39_iterator_4 : decode cJ39_iterator 4 = .ok (.aload_n 0, 1) := dk_42 (dk_at dksJ39_iterator_0 4 rfl rfl)
theorem dJ39_iterator_5 : decode cJ39_iterator 5 = .ok (.getfield 1, 3) := dk_180 0 1 (dk_at dksJ39_iterator_0 5 rfl rfl)
theorem dJ39_iterator_8 : decode cJ39_iterator 8 = .ok (.aload_n 0, 1) := dk_42 (dk_at dksJ39_iterator_0 8 rfl rfl)
theorem dJ39_iterator_9 : decode cJ39_iterator 9 = .ok (.getfield 13, 3) := dk_180 0 13 (dk_at dksJ39_iterator_0 9 rfl rfl)
theorem dJ39_iterator_12 : decode cJ39_iterator 12 = .ok (.invokespecial 28, 3) := dk_183 0 28 (dk_at dksJ39_iterator_0 12 rfl rfl)
theorem dJ39_iterator_15 : decode cJ39_iterator 15 = .ok (.areturn, 1) := dk_176 (dk_at dksJ39_iterator_0 15 rfl rfl)
abbrev iJ39_iterator : xM := (yJ39_iterator, cJ39_iterator, 1, (some (.object "java/util/Iterator")), [])
theorem mJ39_iterator : xOkM iJ39_iterator := ⟨by decide +kernel, by decide, q2466, q183⟩
abbrev cJ40_hasNext : ByteArray := prog_61_method_2_code
def yJ40_hasNext : MethodName := ⟨RJ40, "hasNext", "()Z"⟩
def dkwJ40_hasNext_0 : List UInt8 := [42, 180, 0, 26, 198, 0, 7, 4, 167, 0, 4, 3, 172]
abbrev dktJ40_hasNext_0 : List UInt8 := dkwJ40_hasNext_0 ++ []
theorem dksJ40_hasNext_0 : cJ40_hasNext.data.toList.drop 0 = dktJ40_hasNext_0 := by decide +kernel
theorem dJ40_hasNext_0 : decode cJ40_hasNext 0 = .ok (.aload_n 0, 1) := dk_42 (dk_at dksJ40_hasNext_0 0 rfl rfl)
theorem dJ40_hasNext_1 : decode cJ40_hasNext 1 = .ok (.getfield 26, 3) := dk_180 0 26 (dk_at dksJ40_hasNext_0 1 rfl rfl)
theorem dJ40_hasNext_4 : decode cJ40_hasNext 4 = .ok (.ifnull 7, 3) := dk_198 0 7 (dk_at dksJ40_hasNext_0 4 rfl rfl)
theorem dJ40_hasNext_7 : decode cJ40_hasNext 7 = .ok (.iconst 1, 1) := dk_4 (dk_at dksJ40_hasNext_0 7 rfl rfl)
theorem dJ40_hasNext_8 : decode cJ40_hasNext 8 = .ok (.goto 4, 3) := dk_167 0 4 (dk_at dksJ40_hasNext_0 8 rfl rfl)
theorem dJ40_hasNext_11 : decode cJ40_hasNext 11 = .ok (.iconst 0, 1) := dk_3 (dk_at dksJ40_hasNext_0 11 rfl rfl)
theorem dJ40_hasNext_12 : decode cJ40_hasNext 12 = .ok (.ireturn, 1) := dk_172 (dk_at dksJ40_hasNext_0 12 rfl rfl)
abbrev iJ40_hasNext : xM := (yJ40_hasNext, cJ40_hasNext, 1, (some .boolean), [])
theorem mJ40_hasNext : xOkM iJ40_hasNext := ⟨by decide +kernel, by decide, q2313, q184⟩
abbrev cJ40_nextNode : ByteArray := prog_61_method_3_code
def yJ40_nextNode : MethodName := ⟨RJ40, "nextNode", "()Ljava/util/HashMap$Node;"⟩
def dkwJ40_nextNode_4 : List UInt8 := [181, 0, 26, 198, 255, 229, 44, 176]
abbrev dktJ40_nextNode_4 : List UInt8 := dkwJ40_nextNode_4 ++ []
def dkwJ40_nextNode_3 : List UInt8 := [180, 0, 33, 43, 190, 162, 0, 24, 42, 43, 42, 89, 180, 0, 33, 90, 4, 96, 181, 0, 33, 50, 90]
abbrev dktJ40_nextNode_3 : List UInt8 := dkwJ40_nextNode_3 ++ dktJ40_nextNode_4
def dkwJ40_nextNode_2 : List UInt8 := [180, 0, 45, 90, 181, 0, 26, 199, 0, 45, 42, 180, 0, 1, 180, 0, 22, 89, 76, 198, 0, 33, 42]
abbrev dktJ40_nextNode_2 : List UInt8 := dkwJ40_nextNode_2 ++ dktJ40_nextNode_3
def dkwJ40_nextNode_1 : List UInt8 := [183, 0, 41, 191, 44, 199, 0, 11, 187, 0, 42, 89, 183, 0, 44, 191, 42, 42, 44, 90, 181, 0, 30]
abbrev dktJ40_nextNode_1 : List UInt8 := dkwJ40_nextNode_1 ++ dktJ40_nextNode_2
def dkwJ40_nextNode_0 : List UInt8 := [42, 180, 0, 26, 77, 42, 180, 0, 1, 180, 0, 13, 42, 180, 0, 19, 159, 0, 11, 187, 0, 39, 89]
abbrev dktJ40_nextNode_0 : List UInt8 := dkwJ40_nextNode_0 ++ dktJ40_nextNode_1
theorem dksJ40_nextNode_0 : cJ40_nextNode.data.toList.drop 0 = dktJ40_nextNode_0 := by decide +kernel
theorem dksJ40_nextNode_1 : cJ40_nextNode.data.toList.drop 23 = dktJ40_nextNode_1 := dk_seg dksJ40_nextNode_0 23 rfl rfl
theorem dksJ40_nextNode_2 : cJ40_nextNode.data.toList.drop 46 = dktJ40_nextNode_2 := dk_seg dksJ40_nextNode_1 23 rfl rfl
theorem dksJ40_nextNode_3 : cJ40_nextNode.data.toList.drop 69 = dktJ40_nextNode_3 := dk_seg dksJ40_nextNode_2 23 rfl rfl
theorem dksJ40_nextNode_4 : cJ40_nextNode.data.toList.drop 92 = dktJ40_nextNode_4 := dk_seg dksJ40_nextNode_3 23 rfl rfl
theorem dJ40_nextNode_0 : decode cJ40_nextNode 0 = .ok (.aload_n 0, 1) := dk_42 (dk_at dksJ40_nextNode_0 0 rfl rfl)
theorem dJ40_nextNode_1 : decode cJ40_nextNode 1 = .ok (.getfield 26, 3) := dk_180 0 26 (dk_at dksJ40_nextNode_0 1 rfl rfl)
theorem dJ40_nextNode_4 : decode cJ40_nextNode 4 = .ok (.astore_n 2, 1) := dk_77 (dk_at dksJ40_nextNode_0 4 rfl rfl)
theorem dJ40_nextNode_5 : decode cJ40_nextNode 5 = .ok (.aload_n 0, 1) := dk_42 (dk_at dksJ40_nextNode_0 5 rfl rfl)
theorem dJ40_nextNode_6 : decode cJ40_nextNode 6 = .ok (.getfield 1, 3) := dk_180 0 1 (dk_at dksJ40_nextNode_0 6 rfl rfl)
theorem dJ40_nextNode_9 : decode cJ40_nextNode 9 = .ok (.getfield 13, 3) := dk_180 0 13 (dk_at dksJ40_nextNode_0 9 rfl rfl)
theorem dJ40_nextNode_12 : decode cJ40_nextNode 12 = .ok (.aload_n 0, 1) := dk_42 (dk_at dksJ40_nextNode_0 12 rfl rfl)
theorem dJ40_nextNode_13 : decode cJ40_nextNode 13 = .ok (.getfield 19, 3) := dk_180 0 19 (dk_at dksJ40_nextNode_0 13 rfl rfl)
theorem dJ40_nextNode_16 : decode cJ40_nextNode 16 = .ok (.if_icmp .eq 11, 3) := dk_159 0 11 (dk_at dksJ40_nextNode_0 16 rfl rfl)
theorem dJ40_nextNode_19 : decode cJ40_nextNode 19 = .ok (.new 39, 3) := dk_187 0 39 (dk_at dksJ40_nextNode_0 19 rfl rfl)
theorem dJ40_nextNode_22 : decode cJ40_nextNode 22 = .ok (.dup, 1) := dk_89 (dk_at dksJ40_nextNode_0 22 rfl rfl)
theorem dJ40_nextNode_23 : decode cJ40_nextNode 23 = .ok (.invokespecial 41, 3) := dk_183 0 41 (dk_at dksJ40_nextNode_1 0 rfl rfl)
theorem dJ40_nextNode_26 : decode cJ40_nextNode 26 = .ok (.athrow, 1) := dk_191 (dk_at dksJ40_nextNode_1 3 rfl rfl)
theorem dJ40_nextNode_27 : decode cJ40_nextNode 27 = .ok (.aload_n 2, 1) := dk_44 (dk_at dksJ40_nextNode_1 4 rfl rfl)
theorem dJ40_nextNode_28 : decode cJ40_nextNode 28 = .ok (.ifnonnull 11, 3) := dk_199 0 11 (dk_at dksJ40_nextNode_1 5 rfl rfl)
theorem dJ40_nextNode_31 : decode cJ40_nextNode 31 = .ok (.new 42, 3) := dk_187 0 42 (dk_at dksJ40_nextNode_1 8 rfl rfl)
theorem dJ40_nextNode_34 : decode cJ40_nextNode 34 = .ok (.dup, 1) := dk_89 (dk_at dksJ40_nextNode_1 11 rfl rfl)
theorem dJ40_nextNode_35 : decode cJ40_nextNode 35 = .ok (.invokespecial 44, 3) := dk_183 0 44 (dk_at dksJ40_nextNode_1 12 rfl rfl)
theorem dJ40_nextNode_38 : decode cJ40_nextNode 38 = .ok (.athrow, 1) := dk_191 (dk_at dksJ40_nextNode_1 15 rfl rfl)
theorem dJ40_nextNode_39 : decode cJ40_nextNode 39 = .ok (.aload_n 0, 1) := dk_42 (dk_at dksJ40_nextNode_1 16 rfl rfl)
theorem dJ40_nextNode_40 : decode cJ40_nextNode 40 = .ok (.aload_n 0, 1) := dk_42 (dk_at dksJ40_nextNode_1 17 rfl rfl)
theorem dJ40_nextNode_41 : decode cJ40_nextNode 41 = .ok (.aload_n 2, 1) := dk_44 (dk_at dksJ40_nextNode_1 18 rfl rfl)
theorem dJ40_nextNode_42 : decode cJ40_nextNode 42 = .ok (.dup_x1, 1) := dk_90 (dk_at dksJ40_nextNode_1 19 rfl rfl)
theorem dJ40_nextNode_43 : decode cJ40_nextNode 43 = .ok (.putfield 30, 3) := dk_181 0 30 (dk_at dksJ40_nextNode_1 20 rfl rfl)
theorem dJ40_nextNode_46 : decode cJ40_nextNode 46 = .ok (.getfield 45, 3) := dk_180 0 45 (dk_at dksJ40_nextNode_2 0 rfl rfl)
theorem dJ40_nextNode_49 : decode cJ40_nextNode 49 = .ok (.dup_x1, 1) := dk_90 (dk_at dksJ40_nextNode_2 3 rfl rfl)
theorem dJ40_nextNode_50 : decode cJ40_nextNode 50 = .ok (.putfield 26, 3) := dk_181 0 26 (dk_at dksJ40_nextNode_2 4 rfl rfl)
theorem dJ40_nextNode_53 : decode cJ40_nextNode 53 = .ok (.ifnonnull 45, 3) := dk_199 0 45 (dk_at dksJ40_nextNode_2 7 rfl rfl)
theorem dJ40_nextNode_56 : decode cJ40_nextNode 56 = .ok (.aload_n 0, 1) := dk_42 (dk_at dksJ40_nextNode_2 10 rfl rfl)
theorem dJ40_nextNode_57 : decode cJ40_nextNode 57 = .ok (.getfield 1, 3) := dk_180 0 1 (dk_at dksJ40_nextNode_2 11 rfl rfl)
theorem dJ40_nextNode_60 : decode cJ40_nextNode 60 = .ok (.getfield 22, 3) := dk_180 0 22 (dk_at dksJ40_nextNode_2 14 rfl rfl)
theorem dJ40_nextNode_63 : decode cJ40_nextNode 63 = .ok (.dup, 1) := dk_89 (dk_at dksJ40_nextNode_2 17 rfl rfl)
theorem dJ40_nextNode_64 : decode cJ40_nextNode 64 = .ok (.astore_n 1, 1) := dk_76 (dk_at dksJ40_nextNode_2 18 rfl rfl)
theorem dJ40_nextNode_65 : decode cJ40_nextNode 65 = .ok (.ifnull 33, 3) := dk_198 0 33 (dk_at dksJ40_nextNode_2 19 rfl rfl)
theorem dJ40_nextNode_68 : decode cJ40_nextNode 68 = .ok (.aload_n 0, 1) := dk_42 (dk_at dksJ40_nextNode_2 22 rfl rfl)
theorem dJ40_nextNode_69 : decode cJ40_nextNode 69 = .ok (.getfield 33, 3) := dk_180 0 33 (dk_at dksJ40_nextNode_3 0 rfl rfl)
theorem dJ40_nextNode_72 : decode cJ40_nextNode 72 = .ok (.aload_n 1, 1) := dk_43 (dk_at dksJ40_nextNode_3 3 rfl rfl)
theorem dJ40_nextNode_73 : decode cJ40_nextNode 73 = .ok (.arraylength, 1) := dk_190 (dk_at dksJ40_nextNode_3 4 rfl rfl)
theorem dJ40_nextNode_74 : decode cJ40_nextNode 74 = .ok (.if_icmp .ge 24, 3) := dk_162 0 24 (dk_at dksJ40_nextNode_3 5 rfl rfl)
theorem dJ40_nextNode_77 : decode cJ40_nextNode 77 = .ok (.aload_n 0, 1) := dk_42 (dk_at dksJ40_nextNode_3 8 rfl rfl)
theorem dJ40_nextNode_78 : decode cJ40_nextNode 78 = .ok (.aload_n 1, 1) := dk_43 (dk_at dksJ40_nextNode_3 9 rfl rfl)
theorem dJ40_nextNode_79 : decode cJ40_nextNode 79 = .ok (.aload_n 0, 1) := dk_42 (dk_at dksJ40_nextNode_3 10 rfl rfl)
theorem dJ40_nextNode_80 : decode cJ40_nextNode 80 = .ok (.dup, 1) := dk_89 (dk_at dksJ40_nextNode_3 11 rfl rfl)
theorem dJ40_nextNode_81 : decode cJ40_nextNode 81 = .ok (.getfield 33, 3) := dk_180 0 33 (dk_at dksJ40_nextNode_3 12 rfl rfl)
theorem dJ40_nextNode_84 : decode cJ40_nextNode 84 = .ok (.dup_x1, 1) := dk_90 (dk_at dksJ40_nextNode_3 15 rfl rfl)
theorem dJ40_nextNode_85 : decode cJ40_nextNode 85 = .ok (.iconst 1, 1) := dk_4 (dk_at dksJ40_nextNode_3 16 rfl rfl)
theorem dJ40_nextNode_86 : decode cJ40_nextNode 86 = .ok (.iadd, 1) := dk_96 (dk_at dksJ40_nextNode_3 17 rfl rfl)
theorem dJ40_nextNode_87 : decode cJ40_nextNode 87 = .ok (.putfield 33, 3) := dk_181 0 33 (dk_at dksJ40_nextNode_3 18 rfl rfl)
theorem dJ40_nextNode_90 : decode cJ40_nextNode 90 = .ok (.aaload, 1) := dk_50 (dk_at dksJ40_nextNode_3 21 rfl rfl)
theorem dJ40_nextNode_91 : decode cJ40_nextNode 91 = .ok (.dup_x1, 1) := dk_90 (dk_at dksJ40_nextNode_3 22 rfl rfl)
theorem dJ40_nextNode_92 : decode cJ40_nextNode 92 = .ok (.putfield 26, 3) := dk_181 0 26 (dk_at dksJ40_nextNode_4 0 rfl rfl)
theorem dJ40_nextNode_95 : decode cJ40_nextNode 95 = .ok (.ifnull (-27), 3) := dk_198 255 229 (dk_at dksJ40_nextNode_4 3 rfl rfl)
theorem dJ40_nextNode_98 : decode cJ40_nextNode 98 = .ok (.aload_n 2, 1) := dk_44 (dk_at dksJ40_nextNode_4 6 rfl rfl)
theorem dJ40_nextNode_99 : decode cJ40_nextNode 99 = .ok (.areturn, 1) := dk_176 (dk_at dksJ40_nextNode_4 7 rfl rfl)
abbrev iJ40_nextNode : xM := (yJ40_nextNode, cJ40_nextNode, 3, (some (.object "java/util/HashMap$Node")), [])
theorem mJ40_nextNode : xOkM iJ40_nextNode := ⟨by decide +kernel, by decide, q2360, q184⟩
abbrev cJ40_init : ByteArray := prog_61_method_1_code
def yJ40_init : MethodName := ⟨RJ40, "<init>", "(Ljava/util/HashMap;)V"⟩
def dkwJ40_init_3 : List UInt8 := [181, 0, 26, 198, 255, 229, 177]
abbrev dktJ40_init_3 : List UInt8 := dkwJ40_init_3 ++ []
def dkwJ40_init_2 : List UInt8 := [42, 180, 0, 33, 44, 190, 162, 0, 24, 42, 44, 42, 89, 180, 0, 33, 90, 4, 96, 181, 0, 33, 50, 90]
abbrev dktJ40_init_2 : List UInt8 := dkwJ40_init_2 ++ dktJ40_init_3
def dkwJ40_init_1 : List UInt8 := [1, 90, 181, 0, 26, 181, 0, 30, 42, 3, 181, 0, 33, 44, 198, 0, 40, 43, 180, 0, 36, 158, 0, 33]
abbrev dktJ40_init_1 : List UInt8 := dkwJ40_init_1 ++ dktJ40_init_2
def dkwJ40_init_0 : List UInt8 := [42, 43, 181, 0, 1, 42, 183, 0, 7, 42, 43, 180, 0, 13, 181, 0, 19, 43, 180, 0, 22, 77, 42, 42]
abbrev dktJ40_init_0 : List UInt8 := dkwJ40_init_0 ++ dktJ40_init_1
theorem dksJ40_init_0 : cJ40_init.data.toList.drop 0 = dktJ40_init_0 := by decide +kernel
theorem dksJ40_init_1 : cJ40_init.data.toList.drop 24 = dktJ40_init_1 := dk_seg dksJ40_init_0 24 rfl rfl
theorem dksJ40_init_2 : cJ40_init.data.toList.drop 48 = dktJ40_init_2 := dk_seg dksJ40_init_1 24 rfl rfl
theorem dksJ40_init_3 : cJ40_init.data.toList.drop 72 = dktJ40_init_3 := dk_seg dksJ40_init_2 24 rfl rfl
theorem dJ40_init_0 : decode cJ40_init 0 = .ok (.aload_n 0, 1) := dk_42 (dk_at dksJ40_init_0 0 rfl rfl)
theorem dJ40_init_1 : decode cJ40_init 1 = .ok (.aload_n 1, 1) := dk_43 (dk_at dksJ40_init_0 1 rfl rfl)
theorem dJ40_init_2 : decode cJ40_init 2 = .ok (.putfield 1, 3) := dk_181 0 1 (dk_at dksJ40_init_0 2 rfl rfl)
theorem dJ40_init_5 : decode cJ40_init 5 = .ok (.aload_n 0, 1) := dk_42 (dk_at dksJ40_init_0 5 rfl rfl)
theorem dJ40_init_6 : decode cJ40_init 6 = .ok (.invokespecial 7, 3) := dk_183 0 7 (dk_at dksJ40_init_0 6 rfl rfl)
theorem dJ40_init_9 : decode cJ40_init 9 = .ok (.aload_n 0, 1) := dk_42 (dk_at dksJ40_init_0 9 rfl rfl)
theorem dJ40_init_10 : decode cJ40_init 10 = .ok (.aload_n 1, 1) := dk_43 (dk_at dksJ40_init_0 10 rfl rfl)
theorem dJ40_init_11 : decode cJ40_init 11 = .ok (.getfield 13, 3) := dk_180 0 13 (dk_at dksJ40_init_0 11 rfl rfl)
theorem dJ40_init_14 : decode cJ40_init 14 = .ok (.putfield 19, 3) := dk_181 0 19 (dk_at dksJ40_init_0 14 rfl rfl)
theorem dJ40_init_17 : decode cJ40_init 17 = .ok (.aload_n 1, 1) := dk_43 (dk_at dksJ40_init_0 17 rfl rfl)
theorem dJ40_init_18 : decode cJ40_init 18 = .ok (.getfield 22, 3) := dk_180 0 22 (dk_at dksJ40_init_0 18 rfl rfl)
theorem dJ40_init_21 : decode cJ40_init 21 = .ok (.astore_n 2, 1) := dk_77 (dk_at dksJ40_init_0 21 rfl rfl)
theorem dJ40_init_22 : decode cJ40_init 22 = .ok (.aload_n 0, 1) := dk_42 (dk_at dksJ40_init_0 22 rfl rfl)
theorem dJ40_init_23 : decode cJ40_init 23 = .ok (.aload_n 0, 1) := dk_42 (dk_at dksJ40_init_0 23 rfl rfl)
theorem dJ40_init_24 : decode cJ40_init 24 = .ok (.aconst_null, 1) := dk_1 (dk_at dksJ40_init_1 0 rfl rfl)
theorem dJ40_init_25 : decode cJ40_init 25 = .ok (.dup_x1, 1) := dk_90 (dk_at dksJ40_init_1 1 rfl rfl)
theorem dJ40_init_26 : decode cJ40_init 26 = .ok (.putfield 26, 3) := dk_181 0 26 (dk_at dksJ40_init_1 2 rfl rfl)
theorem dJ40_init_29 : decode cJ40_init 29 = .ok (.putfield 30, 3) := dk_181 0 30 (dk_at dksJ40_init_1 5 rfl rfl)
theorem dJ40_init_32 : decode cJ40_init 32 = .ok (.aload_n 0, 1) := dk_42 (dk_at dksJ40_init_1 8 rfl rfl)
theorem dJ40_init_33 : decode cJ40_init 33 = .ok (.iconst 0, 1) := dk_3 (dk_at dksJ40_init_1 9 rfl rfl)
theorem dJ40_init_34 : decode cJ40_init 34 = .ok (.putfield 33, 3) := dk_181 0 33 (dk_at dksJ40_init_1 10 rfl rfl)
theorem dJ40_init_37 : decode cJ40_init 37 = .ok (.aload_n 2, 1) := dk_44 (dk_at dksJ40_init_1 13 rfl rfl)
theorem dJ40_init_38 : decode cJ40_init 38 = .ok (.ifnull 40, 3) := dk_198 0 40 (dk_at dksJ40_init_1 14 rfl rfl)
theorem dJ40_init_41 : decode cJ40_init 41 = .ok (.aload_n 1, 1) := dk_43 (dk_at dksJ40_init_1 17 rfl rfl)
theorem dJ40_init_42 : decode cJ40_init 42 = .ok (.getfield 36, 3) := dk_180 0 36 (dk_at dksJ40_init_1 18 rfl rfl)
theorem dJ40_init_45 : decode cJ40_init 45 = .ok (.ifCond .le 33, 3) := dk_158 0 33 (dk_at dksJ40_init_1 21 rfl rfl)
theorem dJ40_init_48 : decode cJ40_init 48 = .ok (.aload_n 0, 1) := dk_42 (dk_at dksJ40_init_2 0 rfl rfl)
theorem dJ40_init_49 : decode cJ40_init 49 = .ok (.getfield 33, 3) := dk_180 0 33 (dk_at dksJ40_init_2 1 rfl rfl)
theorem dJ40_init_52 : decode cJ40_init 52 = .ok (.aload_n 2, 1) := dk_44 (dk_at dksJ40_init_2 4 rfl rfl)
theorem dJ40_init_53 : decode cJ40_init 53 = .ok (.arraylength, 1) := dk_190 (dk_at dksJ40_init_2 5 rfl rfl)
theorem dJ40_init_54 : decode cJ40_init 54 = .ok (.if_icmp .ge 24, 3) := dk_162 0 24 (dk_at dksJ40_init_2 6 rfl rfl)
theorem dJ40_init_57 : decode cJ40_init 57 = .ok (.aload_n 0, 1) := dk_42 (dk_at dksJ40_init_2 9 rfl rfl)
theorem dJ40_init_58 : decode cJ40_init 58 = .ok (.aload_n 2, 1) := dk_44 (dk_at dksJ40_init_2 10 rfl rfl)
theorem dJ40_init_59 : decode cJ40_init 59 = .ok (.aload_n 0, 1) := dk_42 (dk_at dksJ40_init_2 11 rfl rfl)
theorem dJ40_init_60 : decode cJ40_init 60 = .ok (.dup, 1) := dk_89 (dk_at dksJ40_init_2 12 rfl rfl)
theorem dJ40_init_61 : decode cJ40_init 61 = .ok (.getfield 33, 3) := dk_180 0 33 (dk_at dksJ40_init_2 13 rfl rfl)
theorem dJ40_init_64 : decode cJ40_init 64 = .ok (.dup_x1, 1) := dk_90 (dk_at dksJ40_init_2 16 rfl rfl)
theorem dJ40_init_65 : decode cJ40_init 65 = .ok (.iconst 1, 1) := dk_4 (dk_at dksJ40_init_2 17 rfl rfl)
theorem dJ40_init_66 : decode cJ40_init 66 = .ok (.iadd, 1) := dk_96 (dk_at dksJ40_init_2 18 rfl rfl)
theorem dJ40_init_67 : decode cJ40_init 67 = .ok (.putfield 33, 3) := dk_181 0 33 (dk_at dksJ40_init_2 19 rfl rfl)
theorem dJ40_init_70 : decode cJ40_init 70 = .ok (.aaload, 1) := dk_50 (dk_at dksJ40_init_2 22 rfl rfl)
theorem dJ40_init_71 : decode cJ40_init 71 = .ok (.dup_x1, 1) := dk_90 (dk_at dksJ40_init_2 23 rfl rfl)
theorem dJ40_init_72 : decode cJ40_init 72 = .ok (.putfield 26, 3) := dk_181 0 26 (dk_at dksJ40_init_3 0 rfl rfl)
theorem dJ40_init_75 : decode cJ40_init 75 = .ok (.ifnull (-27), 3) := dk_198 255 229 (dk_at dksJ40_init_3 3 rfl rfl)
theorem dJ40_init_78 : decode cJ40_init 78 = .ok (.return_, 1) := dk_177 (dk_at dksJ40_init_3 6 rfl rfl)
abbrev iJ40_init : xM := (yJ40_init, cJ40_init, 3, none, [])
theorem mJ40_init : xOkM iJ40_init := ⟨by decide +kernel, by decide, q2443, q184⟩
abbrev cJ41_next : ByteArray := prog_62_method_2_code
def yJ41_next : MethodName := ⟨RJ41, "next", "()Ljava/lang/Object;"⟩
def dkwJ41_next_0 : List UInt8 := [42, 182, 0, 7, 180, 0, 13, 176]
abbrev dktJ41_next_0 : List UInt8 := dkwJ41_next_0 ++ []
theorem dksJ41_next_0 : cJ41_next.data.toList.drop 0 = dktJ41_next_0 := by decide +kernel
theorem dJ41_next_0 : decode cJ41_next 0 = .ok (.aload_n 0, 1) := dk_42 (dk_at dksJ41_next_0 0 rfl rfl)
theorem dJ41_next_1 : decode cJ41_next 1 = .ok (.invokevirtual 7, 3) := dk_182 0 7 (dk_at dksJ41_next_0 1 rfl rfl)
theorem dJ41_next_4 : decode cJ41_next 4 = .ok (.getfield 13, 3) := dk_180 0 13 (dk_at dksJ41_next_0 4 rfl rfl)
theorem dJ41_next_7 : decode cJ41_next 7 = .ok (.areturn, 1) := dk_176 (dk_at dksJ41_next_0 7 rfl rfl)
abbrev iJ41_next : xM := (yJ41_next, cJ41_next, 1, (some (.object "java/lang/Object")), [])
theorem mJ41_next : xOkM iJ41_next := ⟨by decide +kernel, by decide, q2354, q185⟩
abbrev cJ41_init : ByteArray := prog_62_method_1_code
def yJ41_init : MethodName := ⟨RJ41, "<init>", "(Ljava/util/HashMap;)V"⟩
def dkwJ41_init_0 : List UInt8 := [42, 43, 183, 0, 1, 177]
abbrev dktJ41_init_0 : List UInt8 := dkwJ41_init_0 ++ []
theorem dksJ41_init_0 : cJ41_init.data.toList.drop 0 = dktJ41_init_0 := by decide +kernel
theorem dJ41_init_0 : decode cJ41_init 0 = .ok (.aload_n 0, 1) := dk_42 (dk_at dksJ41_init_0 0 rfl rfl)
theorem dJ41_init_1 : decode cJ41_init 1 = .ok (.aload_n 1, 1) := dk_43 (dk_at dksJ41_init_0 1 rfl rfl)
theorem dJ41_init_2 : decode cJ41_init 2 = .ok (.invokespecial 1, 3) := dk_183 0 1 (dk_at dksJ41_init_0 2 rfl rfl)
theorem dJ41_init_5 : decode cJ41_init 5 = .ok (.return_, 1) := dk_177 (dk_at dksJ41_init_0 5 rfl rfl)
abbrev iJ41_init : xM := (yJ41_init, cJ41_init, 2, none, [])
theorem mJ41_init : xOkM iJ41_init := ⟨by decide +kernel, by decide, q2440, q185⟩
abbrev cJ42_hasNext : ByteArray := prog_72_method_2_code
def yJ42_hasNext : MethodName := ⟨RJ42, "hasNext", "()Z"⟩
def dkwJ42_hasNext_0 : List UInt8 := [42, 180, 0, 26, 198, 0, 7, 4, 167, 0, 4, 3, 172]
abbrev dktJ42_hasNext_0 : List UInt8 := dkwJ42_hasNext_0 ++ []
theorem dksJ42_hasNext_0 : cJ42_hasNext.data.toList.drop 0 = dktJ42_hasNext_0 := by decide +kernel
theorem dJ42_hasNext_0 : decode cJ42_hasNext 0 = .ok (.aload_n 0, 1) := dk_42 (dk_at dksJ42_hasNext_0 0 rfl rfl)
theorem dJ42_hasNext_1 : decode cJ42_hasNext 1 = .ok (.getfield 26, 3) := dk_180 0 26 (dk_at dksJ42_hasNext_0 1 rfl rfl)
theorem dJ42_hasNext_4 : decode cJ42_hasNext 4 = .ok (.ifnull 7, 3) := dk_198 0 7 (dk_at dksJ42_hasNext_0 4 rfl rfl)
theorem dJ42_hasNext_7 : decode cJ42_hasNext 7 = .ok (.iconst 1, 1) := dk_4 (dk_at dksJ42_hasNext_0 7 rfl rfl)
theorem dJ42_hasNext_8 : decode cJ42_hasNext 8 = .ok (.goto 4, 3) := dk_167 0 4 (dk_at dksJ42_hasNext_0 8 rfl rfl)
theorem dJ42_hasNext_11 : decode cJ42_hasNext 11 = .ok (.iconst 0, 1) := dk_3 (dk_at dksJ42_hasNext_0 11 rfl rfl)
theorem dJ42_hasNext_12 : decode cJ42_hasNext 12 = .ok (.ireturn, 1) := dk_172 (dk_at dksJ42_hasNext_0 12 rfl rfl)
abbrev iJ42_hasNext : xM := (yJ42_hasNext, cJ42_hasNext, 1, (some .boolean), [])
theorem mJ42_hasNext : xOkM iJ42_hasNext := ⟨by decide +kernel, by decide, q2319, q186⟩
abbrev cJ42_nextNode : ByteArray := prog_72_method_3_code
def yJ42_nextNode : MethodName := ⟨RJ42, "nextNode", "()Ljava/util/LinkedHashMap$Entry;"⟩
def dkwJ42_nextNode_2 : List UInt8 := [180, 0, 13, 153, 0, 10, 43, 180, 0, 45, 167, 0, 7, 43, 180, 0, 50, 181, 0, 26, 43, 176]
abbrev dktJ42_nextNode_2 : List UInt8 := dkwJ42_nextNode_2 ++ []
def dkwJ42_nextNode_1 : List UInt8 := [183, 0, 41, 191, 43, 199, 0, 11, 187, 0, 42, 89, 183, 0, 44, 191, 42, 43, 181, 0, 36, 42, 42]
abbrev dktJ42_nextNode_1 : List UInt8 := dkwJ42_nextNode_1 ++ dktJ42_nextNode_2
def dkwJ42_nextNode_0 : List UInt8 := [42, 180, 0, 26, 76, 42, 180, 0, 1, 180, 0, 29, 42, 180, 0, 33, 159, 0, 11, 187, 0, 39, 89]
abbrev dktJ42_nextNode_0 : List UInt8 := dkwJ42_nextNode_0 ++ dktJ42_nextNode_1
theorem dksJ42_nextNode_0 : cJ42_nextNode.data.toList.drop 0 = dktJ42_nextNode_0 := by decide +kernel
theorem dksJ42_nextNode_1 : cJ42_nextNode.data.toList.drop 23 = dktJ42_nextNode_1 := dk_seg dksJ42_nextNode_0 23 rfl rfl
theorem dksJ42_nextNode_2 : cJ42_nextNode.data.toList.drop 46 = dktJ42_nextNode_2 := dk_seg dksJ42_nextNode_1 23 rfl rfl
theorem dJ42_nextNode_0 : decode cJ42_nextNode 0 = .ok (.aload_n 0, 1) := dk_42 (dk_at dksJ42_nextNode_0 0 rfl rfl)
theorem dJ42_nextNode_1 : decode cJ42_nextNode 1 = .ok (.getfield 26, 3) := dk_180 0 26 (dk_at dksJ42_nextNode_0 1 rfl rfl)
theorem dJ42_nextNode_4 : decode cJ42_nextNode 4 = .ok (.astore_n 1, 1) := dk_76 (dk_at dksJ42_nextNode_0 4 rfl rfl)
theorem dJ42_nextNode_5 : decode cJ42_nextNode 5 = .ok (.aload_n 0, 1) := dk_42 (dk_at dksJ42_nextNode_0 5 rfl rfl)
theorem dJ42_nextNode_6 : decode cJ42_nextNode 6 = .ok (.getfield 1, 3) := dk_180 0 1 (dk_at dksJ42_nextNode_0 6 rfl rfl)
theorem dJ42_nextNode_9 : decode cJ42_nextNode 9 = .ok (.getfield 29, 3) := dk_180 0 29 (dk_at dksJ42_nextNode_0 9 rfl rfl)
theorem dJ42_nextNode_12 : decode cJ42_nextNode 12 = .ok (.aload_n 0, 1) := dk_42 (dk_at dksJ42_nextNode_0 12 rfl rfl)
theorem dJ42_nextNode_13 : decode cJ42_nextNode 13 = .ok (.getfield 33, 3) := dk_180 0 33 (dk_at dksJ42_nextNode_0 13 rfl rfl)
theorem dJ42_nextNode_16 : decode cJ42_nextNode 16 = .ok (.if_icmp .eq 11, 3) := dk_159 0 11 (dk_at dksJ42_nextNode_0 16 rfl rfl)
theorem dJ42_nextNode_19 : decode cJ42_nextNode 19 = .ok (.new 39, 3) := dk_187 0 39 (dk_at dksJ42_nextNode_0 19 rfl rfl)
theorem dJ42_nextNode_22 : decode cJ42_nextNode 22 = .ok (.dup, 1) := dk_89 (dk_at dksJ42_nextNode_0 22 rfl rfl)
theorem dJ42_nextNode_23 : decode cJ42_nextNode 23 = .ok (.invokespecial 41, 3) := dk_183 0 41 (dk_at dksJ42_nextNode_1 0 rfl rfl)
theorem dJ42_nextNode_26 : decode cJ42_nextNode 26 = .ok (.athrow, 1) := dk_191 (dk_at dksJ42_nextNode_1 3 rfl rfl)
theorem dJ42_nextNode_27 : decode cJ42_nextNode 27 = .ok (.aload_n 1, 1) := dk_43 (dk_at dksJ42_nextNode_1 4 rfl rfl)
theorem dJ42_nextNode_28 : decode cJ42_nextNode 28 = .ok (.ifnonnull 11, 3) := dk_199 0 11 (dk_at dksJ42_nextNode_1 5 rfl rfl)
theorem dJ42_nextNode_31 : decode cJ42_nextNode 31 = .ok (.new 42, 3) := dk_187 0 42 (dk_at dksJ42_nextNode_1 8 rfl rfl)
theorem dJ42_nextNode_34 : decode cJ42_nextNode 34 = .ok (.dup, 1) := dk_89 (dk_at dksJ42_nextNode_1 11 rfl rfl)
theorem dJ42_nextNode_35 : decode cJ42_nextNode 35 = .ok (.invokespecial 44, 3) := dk_183 0 44 (dk_at dksJ42_nextNode_1 12 rfl rfl)
theorem dJ42_nextNode_38 : decode cJ42_nextNode 38 = .ok (.athrow, 1) := dk_191 (dk_at dksJ42_nextNode_1 15 rfl rfl)
theorem dJ42_nextNode_39 : decode cJ42_nextNode 39 = .ok (.aload_n 0, 1) := dk_42 (dk_at dksJ42_nextNode_1 16 rfl rfl)
theorem dJ42_nextNode_40 : decode cJ42_nextNode 40 = .ok (.aload_n 1, 1) := dk_43 (dk_at dksJ42_nextNode_1 17 rfl rfl)
theorem dJ42_nextNode_41 : decode cJ42_nextNode 41 = .ok (.putfield 36, 3) := dk_181 0 36 (dk_at dksJ42_nextNode_1 18 rfl rfl)
theorem dJ42_nextNode_44 : decode cJ42_nextNode 44 = .ok (.aload_n 0, 1) := dk_42 (dk_at dksJ42_nextNode_1 21 rfl rfl)
theorem dJ42_nextNode_45 : decode cJ42_nextNode 45 = .ok (.aload_n 0, 1) := dk_42 (dk_at dksJ42_nextNode_1 22 rfl rfl)
theorem dJ42_nextNode_46 : decode cJ42_nextNode 46 = .ok (.getfield 13, 3) := dk_180 0 13 (dk_at dksJ42_nextNode_2 0 rfl rfl)
theorem dJ42_nextNode_49 : decode cJ42_nextNode 49 = .ok (.ifCond .eq 10, 3) := dk_153 0 10 (dk_at dksJ42_nextNode_2 3 rfl rfl)
theorem dJ42_nextNode_52 : decode cJ42_nextNode 52 = .ok (.aload_n 1, 1) := dk_43 (dk_at dksJ42_nextNode_2 6 rfl rfl)
theorem dJ42_nextNode_53 : decode cJ42_nextNode 53 = .ok (.getfield 45, 3) := dk_180 0 45 (dk_at dksJ42_nextNode_2 7 rfl rfl)
theorem dJ42_nextNode_56 : decode cJ42_nextNode 56 = .ok (.goto 7, 3) := dk_167 0 7 (dk_at dksJ42_nextNode_2 10 rfl rfl)
theorem dJ42_nextNode_59 : decode cJ42_nextNode 59 = .ok (.aload_n 1, 1) := dk_43 (dk_at dksJ42_nextNode_2 13 rfl rfl)
theorem dJ42_nextNode_60 : decode cJ42_nextNode 60 = .ok (.getfield 50, 3) := dk_180 0 50 (dk_at dksJ42_nextNode_2 14 rfl rfl)
theorem dJ42_nextNode_63 : decode cJ42_nextNode 63 = .ok (.putfield 26, 3) := dk_181 0 26 (dk_at dksJ42_nextNode_2 17 rfl rfl)
theorem dJ42_nextNode_66 : decode cJ42_nextNode 66 = .ok (.aload_n 1, 1) := dk_43 (dk_at dksJ42_nextNode_2 20 rfl rfl)
theorem dJ42_nextNode_67 : decode cJ42_nextNode 67 = .ok (.areturn, 1) := dk_176 (dk_at dksJ42_nextNode_2 21 rfl rfl)
abbrev iJ42_nextNode : xM := (yJ42_nextNode, cJ42_nextNode, 2, (some (.object "java/util/LinkedHashMap$Entry")), [])
theorem mJ42_nextNode : xOkM iJ42_nextNode := ⟨by decide +kernel, by decide, q2375, q186⟩
abbrev cJ42_init : ByteArray := prog_72_method_1_code
def yJ42_init : MethodName := ⟨RJ42, "<init>", "(Ljava/util/LinkedHashMap;Z)V"⟩
def dkwJ42_init_1 : List UInt8 := [167, 0, 7, 43, 180, 0, 23, 181, 0, 26, 42, 43, 180, 0, 29, 181, 0, 33, 42, 1, 181, 0, 36, 177]
abbrev dktJ42_init_1 : List UInt8 := dkwJ42_init_1 ++ []
def dkwJ42_init_0 : List UInt8 := [42, 43, 181, 0, 1, 42, 183, 0, 7, 42, 28, 181, 0, 13, 42, 28, 153, 0, 10, 43, 180, 0, 17]
abbrev dktJ42_init_0 : List UInt8 := dkwJ42_init_0 ++ dktJ42_init_1
theorem dksJ42_init_0 : cJ42_init.data.toList.drop 0 = dktJ42_init_0 := by decide +kernel
theorem dksJ42_init_1 : cJ42_init.data.toList.drop 23 = dktJ42_init_1 := dk_seg dksJ42_init_0 23 rfl rfl
theorem dJ42_init_0 : decode cJ42_init 0 = .ok (.aload_n 0, 1) := dk_42 (dk_at dksJ42_init_0 0 rfl rfl)
theorem dJ42_init_1 : decode cJ42_init 1 = .ok (.aload_n 1, 1) := dk_43 (dk_at dksJ42_init_0 1 rfl rfl)
theorem dJ42_init_2 : decode cJ42_init 2 = .ok (.putfield 1, 3) := dk_181 0 1 (dk_at dksJ42_init_0 2 rfl rfl)
theorem dJ42_init_5 : decode cJ42_init 5 = .ok (.aload_n 0, 1) := dk_42 (dk_at dksJ42_init_0 5 rfl rfl)
theorem dJ42_init_6 : decode cJ42_init 6 = .ok (.invokespecial 7, 3) := dk_183 0 7 (dk_at dksJ42_init_0 6 rfl rfl)
theorem dJ42_init_9 : decode cJ42_init 9 = .ok (.aload_n 0, 1) := dk_42 (dk_at dksJ42_init_0 9 rfl rfl)
theorem dJ42_init_10 : decode cJ42_init 10 = .ok (.iload_n 2, 1) := dk_28 (dk_at dksJ42_init_0 10 rfl rfl)
theorem dJ42_init_11 : decode cJ42_init 11 = .ok (.putfield 13, 3) := dk_181 0 13 (dk_at dksJ42_init_0 11 rfl rfl)
theorem dJ42_init_14 : decode cJ42_init 14 = .ok (.aload_n 0, 1) := dk_42 (dk_at dksJ42_init_0 14 rfl rfl)
theorem dJ42_init_15 : decode cJ42_init 15 = .ok (.iload_n 2, 1) := dk_28 (dk_at dksJ42_init_0 15 rfl rfl)
theorem dJ42_init_16 : decode cJ42_init 16 = .ok (.ifCond .eq 10, 3) := dk_153 0 10 (dk_at dksJ42_init_0 16 rfl rfl)
theorem dJ42_init_19 : decode cJ42_init 19 = .ok (.aload_n 1, 1) := dk_43 (dk_at dksJ42_init_0 19 rfl rfl)
theorem dJ42_init_20 : decode cJ42_init 20 = .ok (.getfield 17, 3) := dk_180 0 17 (dk_at dksJ42_init_0 20 rfl rfl)
theorem dJ42_init_23 : decode cJ42_init 23 = .ok (.goto 7, 3) := dk_167 0 7 (dk_at dksJ42_init_1 0 rfl rfl)
theorem dJ42_init_26 : decode cJ42_init 26 = .ok (.aload_n 1, 1) := dk_43 (dk_at dksJ42_init_1 3 rfl rfl)
theorem dJ42_init_27 : decode cJ42_init 27 = .ok (.getfield 23, 3) := dk_180 0 23 (dk_at dksJ42_init_1 4 rfl rfl)
theorem dJ42_init_30 : decode cJ42_init 30 = .ok (.putfield 26, 3) := dk_181 0 26 (dk_at dksJ42_init_1 7 rfl rfl)
theorem dJ42_init_33 : decode cJ42_init 33 = .ok (.aload_n 0, 1) := dk_42 (dk_at dksJ42_init_1 10 rfl rfl)
theorem dJ42_init_34 : decode cJ42_init 34 = .ok (.aload_n 1, 1) := dk_43 (dk_at dksJ42_init_1 11 rfl rfl)
theorem dJ42_init_35 : decode cJ42_init 35 = .ok (.getfield 29, 3) := dk_180 0 29 (dk_at dksJ42_init_1 12 rfl rfl)
theorem dJ42_init_38 : decode cJ42_init 38 = .ok (.putfield 33, 3) := dk_181 0 33 (dk_at dksJ42_init_1 15 rfl rfl)
theorem dJ42_init_41 : decode cJ42_init 41 = .ok (.aload_n 0, 1) := dk_42 (dk_at dksJ42_init_1 18 rfl rfl)
theorem dJ42_init_42 : decode cJ42_init 42 = .ok (.aconst_null, 1) := dk_1 (dk_at dksJ42_init_1 19 rfl rfl)
theorem dJ42_init_43 : decode cJ42_init 43 = .ok (.putfield 36, 3) := dk_181 0 36 (dk_at dksJ42_init_1 20 rfl rfl)
theorem dJ42_init_46 : decode cJ42_init 46 = .ok (.return_, 1) := dk_177 (dk_at dksJ42_init_1 23 rfl rfl)
abbrev iJ42_init : xM := (yJ42_init, cJ42_init, 3, none, [])
theorem mJ42_init : xOkM iJ42_init := ⟨by decide +kernel, by decide, q2474, q186⟩
abbrev cJ43_next : ByteArray := prog_70_method_3_code
def yJ43_next : MethodName := ⟨RJ43, "next", "()Ljava/lang/Object;"⟩
theorem dJ43_next_0 : decode cJ43_next 0 = .ok (.aload_n 0, 1) := by decide +kernel
theorem dJ43_next_1 : decode cJ43_next 1 = .ok (.invokevirtual 13, 3) := by decide +kernel
theorem dJ43_next_4 : decode cJ43_next 4 = .ok (.areturn, 1) := by decide +kernel
abbrev iJ43_next : xM := (yJ43_next, cJ43_next, 1, (some (.object "java/lang/Object")), [])
theorem mJ43_next : xOkM iJ43_next := ⟨by decide +kernel, by decide, q2365, q187⟩
abbrev cJ43_next_2 : ByteArray := prog_70_method_2_code
def yJ43_next_2 : MethodName := ⟨RJ43, "next", "()Ljava/util/Map$Entry;"⟩
theorem dJ43_next_2_0 : decode cJ43_next_2 0 = .ok (.aload_n 0, 1) := by decide +kernel
theorem dJ43_next_2_1 : decode cJ43_next_2 1 = .ok (.invokevirtual 7, 3) := by decide +kernel
theorem dJ43_next_2_4 : decode cJ43_next_2 4 = .ok (.areturn, 1) := by decide +kernel
abbrev iJ43_next_2 : xM := (yJ43_next_2, cJ43_next_2, 1, (some (.object "java/util/Map$Entry")), [])
theorem mJ43_next_2 : xOkM iJ43_next_2 := ⟨by decide +kernel, by decide, q2369, q187⟩
abbrev cJ43_init : ByteArray := prog_70_method_1_code
def yJ43_init : MethodName := ⟨RJ43, "<init>", "(Ljava/util/LinkedHashMap;Z)V"⟩
def dkwJ43_init_0 : List UInt8 := [42, 43, 28, 183, 0, 1, 177]
abbrev dktJ43_init_0 : List UInt8 := dkwJ43_init_0 ++ []
theorem dksJ43_init_0 : cJ43_init.data.toList.drop 0 = dktJ43_init_0 := by decide +kernel
theorem dJ43_init_0 : decode cJ43_init 0 = .ok (.aload_n 0, 1) := dk_42 (dk_at dksJ43_init_0 0 rfl rfl)
theorem dJ43_init_1 : decode cJ43_init 1 = .ok (.aload_n 1, 1) := dk_43 (dk_at dksJ43_init_0 1 rfl rfl)
theorem dJ43_init_2 : decode cJ43_init 2 = .ok (.iload_n 2, 1) := dk_28 (dk_at dksJ43_init_0 2 rfl rfl)
theorem dJ43_init_3 : decode cJ43_init 3 = .ok (.invokespecial 1, 3) := dk_183 0 1 (dk_at dksJ43_init_0 3 rfl rfl)
theorem dJ43_init_6 : decode cJ43_init 6 = .ok (.return_, 1) := dk_177 (dk_at dksJ43_init_0 6 rfl rfl)
abbrev iJ43_init : xM := (yJ43_init, cJ43_init, 3, none, [])
theorem mJ43_init : xOkM iJ43_init := ⟨by decide +kernel, by decide, q2471, q187⟩
abbrev cJ44_next : ByteArray := prog_73_method_2_code
def yJ44_next : MethodName := ⟨RJ44, "next", "()Ljava/lang/Object;"⟩
def dkwJ44_next_0 : List UInt8 := [42, 182, 0, 7, 182, 0, 13, 176]
abbrev dktJ44_next_0 : List UInt8 := dkwJ44_next_0 ++ []
theorem dksJ44_next_0 : cJ44_next.data.toList.drop 0 = dktJ44_next_0 := by decide +kernel
theorem dJ44_next_0 : decode cJ44_next 0 = .ok (.aload_n 0, 1) := dk_42 (dk_at dksJ44_next_0 0 rfl rfl)
theorem dJ44_next_1 : decode cJ44_next 1 = .ok (.invokevirtual 7, 3) := dk_182 0 7 (dk_at dksJ44_next_0 1 rfl rfl)
theorem dJ44_next_4 : decode cJ44_next 4 = .ok (.invokevirtual 13, 3) := dk_182 0 13 (dk_at dksJ44_next_0 4 rfl rfl)
theorem dJ44_next_7 : decode cJ44_next 7 = .ok (.areturn, 1) := dk_176 (dk_at dksJ44_next_0 7 rfl rfl)
abbrev iJ44_next : xM := (yJ44_next, cJ44_next, 1, (some (.object "java/lang/Object")), [])
theorem mJ44_next : xOkM iJ44_next := ⟨by decide +kernel, by decide, q2380, q188⟩
abbrev cJ44_init : ByteArray := prog_73_method_1_code
def yJ44_init : MethodName := ⟨RJ44, "<init>", "(Ljava/util/LinkedHashMap;Z)V"⟩
def dkwJ44_init_0 : List UInt8 := [42, 43, 28, 183, 0, 1, 177]
abbrev dktJ44_init_0 : List UInt8 := dkwJ44_init_0 ++ []
theorem dksJ44_init_0 : cJ44_init.data.toList.drop 0 = dktJ44_init_0 := by decide +kernel
theorem dJ44_init_0 : decode cJ44_init 0 = .ok (.aload_n 0, 1) := dk_42 (dk_at dksJ44_init_0 0 rfl rfl)
theorem dJ44_init_1 : decode cJ44_init 1 = .ok (.aload_n 1, 1) := dk_43 (dk_at dksJ44_init_0 1 rfl rfl)
theorem dJ44_init_2 : decode cJ44_init 2 = .ok (.iload_n 2, 1) := dk_28 (dk_at dksJ44_init_0 2 rfl rfl)
theorem dJ44_init_3 : decode cJ44_init 3 = .ok (.invokespecial 1, 3) := dk_183 0 1 (dk_at dksJ44_init_0 3 rfl rfl)
theorem dJ44_init_6 : decode cJ44_init 6 = .ok (.return_, 1) := dk_177 (dk_at dksJ44_init_0 6 rfl rfl)
abbrev iJ44_init : xM := (yJ44_init, cJ44_init, 3, none, [])
theorem mJ44_init : xOkM iJ44_init := ⟨by decide +kernel, by decide, q2502, q188⟩
abbrev cJ45_iterator : ByteArray := prog_63_method_4_code
def yJ45_iterator : MethodName := ⟨RJ45, "iterator", "()Ljava/util/Iterator;"⟩
def dkwJ45_iterator_0 : List UInt8 := [187, 0, 22, 89, 42, 180, 0, 1, 183, 0, 24, 176]
abbrev dktJ45_iterator_0 : List UInt8 := dkwJ45_iterator_0 ++ []
theorem dksJ45_iterator_0 : cJ45_iterator.data.toList.drop 0 = dktJ45_iterator_0 := by decide +kernel
theorem dJ45_iterator_0 : decode cJ45_iterator 0 = .ok (.new 22, 3) := dk_187 0 22 (dk_at dksJ45_iterator_0 0 rfl rfl)
theorem dJ45_iterator_3 : decode cJ45_iterator 3 = .ok (.dup, 1) := dk_89 (dk_at dksJ45_iterator_0 3 rfl rfl)
theorem dJ45_iterator_4 : decode cJ45_iterator 4 = .ok (.aload_n 0, 1) := dk_42 (dk_at dksJ45_iterator_0 4 rfl rfl)
theorem dJ45_iterator_5 : decode cJ45_iterator 5 = .ok (.getfield 1, 3) := dk_180 0 1 (dk_at dksJ45_iterator_0 5 rfl rfl)
theorem dJ45_iterator_8 : decode cJ45_iterator 8 = .ok (.invokespecial 24, 3) := dk_183 0 24 (dk_at dksJ45_iterator_0 8 rfl rfl)
theorem dJ45_iterator_11 : decode cJ45_iterator 11 = .ok (.areturn, 1) := dk_176 (dk_at dksJ45_iterator_0 11 rfl rfl)
abbrev iJ45_iterator : xM := (yJ45_iterator, cJ45_iterator, 1, (some (.object "java/util/Iterator")), [])
theorem mJ45_iterator : xOkM iJ45_iterator := ⟨by decide +kernel, by decide, q2435, q189⟩
abbrev cJ46_iterator : ByteArray := prog_74_method_4_code
def yJ46_iterator : MethodName := ⟨RJ46, "iterator", "()Ljava/util/Iterator;"⟩
def dkwJ46_iterator_0 : List UInt8 := [187, 0, 26, 89, 42, 180, 0, 1, 42, 180, 0, 13, 183, 0, 28, 176]
abbrev dktJ46_iterator_0 : List UInt8 := dkwJ46_iterator_0 ++ []
theorem dksJ46_iterator_0 : cJ46_iterator.data.toList.drop 0 = dktJ46_iterator_0 := by decide +kernel
theorem dJ46_iterator_0 : decode cJ46_iterator 0 = .ok (.new 26, 3) := dk_187 0 26 (dk_at dksJ46_iterator_0 0 rfl rfl)
theorem dJ46_iterator_3 : decode cJ46_iterator 3 = .ok (.dup, 1) := dk_89 (dk_at dksJ46_iterator_0 3 rfl rfl)
theorem dJ46_iterator_4 : decode cJ46_iterator 4 = .ok (.aload_n 0, 1) := dk_42 (dk_at dksJ46_iterator_0 4 rfl rfl)
theorem dJ46_iterator_5 : decode cJ46_iterator 5 = .ok (.getfield 1, 3) := dk_180 0 1 (dk_at dksJ46_iterator_0 5 rfl rfl)
theorem dJ46_iterator_8 : decode cJ46_iterator 8 = .ok (.aload_n 0, 1) := dk_42 (dk_at dksJ46_iterator_0 8 rfl rfl)
theorem dJ46_iterator_9 : decode cJ46_iterator 9 = .ok (.getfield 13, 3) := dk_180 0 13 (dk_at dksJ46_iterator_0 9 rfl rfl)
theorem dJ46_iterator_12 : decode cJ46_iterator 12 = .ok (.invokespecial 28, 3) := dk_183 0 28 (dk_at dksJ46_iterator_0 12 rfl rfl)
theorem dJ46_iterator_15 : decode cJ46_iterator 15 = .ok (.areturn, 1) := dk_176 (dk_at dksJ46_iterator_0 15 rfl rfl)
abbrev iJ46_iterator : xM := (yJ46_iterator, cJ46_iterator, 1, (some (.object "java/util/Iterator")), [])
theorem mJ46_iterator : xOkM iJ46_iterator := ⟨by decide +kernel, by decide, q2497, q190⟩
abbrev cJ46_init : ByteArray := prog_74_method_1_code
def yJ46_init : MethodName := ⟨RJ46, "<init>", "(Ljava/util/LinkedHashMap;Z)V"⟩
def dkwJ46_init_0 : List UInt8 := [42, 43, 181, 0, 1, 42, 183, 0, 7, 42, 28, 181, 0, 13, 177]
abbrev dktJ46_init_0 : List UInt8 := dkwJ46_init_0 ++ []
theorem dksJ46_init_0 : cJ46_init.data.toList.drop 0 = dktJ46_init_0 := by decide +kernel
theorem dJ46_init_0 : decode cJ46_init 0 = .ok (.aload_n 0, 1) := dk_42 (dk_at dksJ46_init_0 0 rfl rfl)
theorem dJ46_init_1 : decode cJ46_init 1 = .ok (.aload_n 1, 1) := dk_43 (dk_at dksJ46_init_0 1 rfl rfl)
theorem dJ46_init_2 : decode cJ46_init 2 = .ok (.putfield 1, 3) := dk_181 0 1 (dk_at dksJ46_init_0 2 rfl rfl)
theorem dJ46_init_5 : decode cJ46_init 5 = .ok (.aload_n 0, 1) := dk_42 (dk_at dksJ46_init_0 5 rfl rfl)
theorem dJ46_init_6 : decode cJ46_init 6 = .ok (.invokespecial 7, 3) := dk_183 0 7 (dk_at dksJ46_init_0 6 rfl rfl)
theorem dJ46_init_9 : decode cJ46_init 9 = .ok (.aload_n 0, 1) := dk_42 (dk_at dksJ46_init_0 9 rfl rfl)
theorem dJ46_init_10 : decode cJ46_init 10 = .ok (.iload_n 2, 1) := dk_28 (dk_at dksJ46_init_0 10 rfl rfl)
theorem dJ46_init_11 : decode cJ46_init 11 = .ok (.putfield 13, 3) := dk_181 0 13 (dk_at dksJ46_init_0 11 rfl rfl)
theorem dJ46_init_14 : decode cJ46_init 14 = .ok (.return_, 1) := dk_177 (dk_at dksJ46_init_0 14 rfl rfl)
abbrev iJ46_init : xM := (yJ46_init, cJ46_init, 3, none, [])
theorem mJ46_init : xOkM iJ46_init := ⟨by decide +kernel, by decide, q2530, q190⟩
abbrev cJ49_init : ByteArray := prog_76_method_1_code
def yJ49_init : MethodName := ⟨RJ49, "<init>", "(Ljava/util/LinkedHashMap;Z)V"⟩
def dkwJ49_init_0 : List UInt8 := [42, 43, 181, 0, 1, 42, 183, 0, 7, 42, 28, 181, 0, 13, 177]
abbrev dktJ49_init_0 : List UInt8 := dkwJ49_init_0 ++ []
theorem dksJ49_init_0 : cJ49_init.data.toList.drop 0 = dktJ49_init_0 := by decide +kernel
theorem dJ49_init_0 : decode cJ49_init 0 = .ok (.aload_n 0, 1) := dk_42 (dk_at dksJ49_init_0 0 rfl rfl)
theorem dJ49_init_1 : decode cJ49_init 1 = .ok (.aload_n 1, 1) := dk_43 (dk_at dksJ49_init_0 1 rfl rfl)
theorem dJ49_init_2 : decode cJ49_init 2 = .ok (.putfield 1, 3) := dk_181 0 1 (dk_at dksJ49_init_0 2 rfl rfl)
theorem dJ49_init_5 : decode cJ49_init 5 = .ok (.aload_n 0, 1) := dk_42 (dk_at dksJ49_init_0 5 rfl rfl)
theorem dJ49_init_6 : decode cJ49_init 6 = .ok (.invokespecial 7, 3) := dk_183 0 7 (dk_at dksJ49_init_0 6 rfl rfl)
theorem dJ49_init_9 : decode cJ49_init 9 = .ok (.aload_n 0, 1) := dk_42 (dk_at dksJ49_init_0 9 rfl rfl)
theorem dJ49_init_10 : decode cJ49_init 10 = .ok (.iload_n 2, 1) := dk_28 (dk_at dksJ49_init_0 10 rfl rfl)
theorem dJ49_init_11 : decode cJ49_init 11 = .ok (.putfield 13, 3) := dk_181 0 13 (dk_at dksJ49_init_0 11 rfl rfl)
theorem dJ49_init_14 : decode cJ49_init 14 = .ok (.return_, 1) := dk_177 (dk_at dksJ49_init_0 14 rfl rfl)
abbrev iJ49_init : xM := (yJ49_init, cJ49_init, 3, none, [])
theorem mJ49_init : xOkM iJ49_init := ⟨by decide +kernel, by decide, q2991, q194⟩
abbrev cJ49_iterator : ByteArray := prog_76_method_4_code
def yJ49_iterator : MethodName := ⟨RJ49, "iterator", "()Ljava/util/Iterator;"⟩
def dkwJ49_iterator_0 : List UInt8 := [187, 0, 26, 89, 42, 180, 0, 1, 42, 180, 0, 13, 183, 0, 28, 176]
abbrev dktJ49_iterator_0 : List UInt8 := dkwJ49_iterator_0 ++ []
theorem dksJ49_iterator_0 : cJ49_iterator.data.toList.drop 0 = dktJ49_iterator_0 := by decide +kernel
theorem dJ49_iterator_0 : decode cJ49_iterator 0 = .ok (.new 26, 3) := dk_187 0 26 (dk_at dksJ49_iterator_0 0 rfl rfl)
theorem dJ49_iterator_3 : decode cJ49_iterator 3 = .ok (.dup, 1) := dk_89 (dk_at dksJ49_iterator_0 3 rfl rfl)
theorem dJ49_iterator_4 : decode cJ49_iterator 4 = .ok (.aload_n 0, 1) := dk_42 (dk_at dksJ49_iterator_0 4 rfl rfl)
theorem dJ49_iterator_5 : decode cJ49_iterator 5 = .ok (.getfield 1, 3) := dk_180 0 1 (dk_at dksJ49_iterator_0 5 rfl rfl)
theorem dJ49_iterator_8 : decode cJ49_iterator 8 = .ok (.aload_n 0, 1) := dk_42 (dk_at dksJ49_iterator_0 8 rfl rfl)
theorem dJ49_iterator_9 : decode cJ49_iterator 9 = .ok (.getfield 13, 3) := dk_180 0 13 (dk_at dksJ49_iterator_0 9 rfl rfl)
theorem dJ49_iterator_12 : decode cJ49_iterator 12 = .ok (.invokespecial 28, 3) := dk_183 0 28 (dk_at dksJ49_iterator_0 12 rfl rfl)
theorem dJ49_iterator_15 : decode cJ49_iterator 15 = .ok (.areturn, 1) := dk_176 (dk_at dksJ49_iterator_0 15 rfl rfl)
abbrev iJ49_iterator : xM := (yJ49_iterator, cJ49_iterator, 1, (some (.object "java/util/Iterator")), [])
theorem mJ49_iterator : xOkM iJ49_iterator := ⟨by decide +kernel, by decide, q3049, q194⟩
abbrev cJ51_next : ByteArray := prog_75_method_2_code
def yJ51_next : MethodName := ⟨RJ51, "next", "()Ljava/lang/Object;"⟩
def dkwJ51_next_0 : List UInt8 := [42, 182, 0, 7, 180, 0, 13, 176]
abbrev dktJ51_next_0 : List UInt8 := dkwJ51_next_0 ++ []
theorem dksJ51_next_0 : cJ51_next.data.toList.drop 0 = dktJ51_next_0 := by decide +kernel
theorem dJ51_next_0 : decode cJ51_next 0 = .ok (.aload_n 0, 1) := dk_42 (dk_at dksJ51_next_0 0 rfl rfl)
theorem dJ51_next_1 : decode cJ51_next 1 = .ok (.invokevirtual 7, 3) := dk_182 0 7 (dk_at dksJ51_next_0 1 rfl rfl)
theorem dJ51_next_4 : decode cJ51_next 4 = .ok (.getfield 13, 3) := dk_180 0 13 (dk_at dksJ51_next_0 4 rfl rfl)
theorem dJ51_next_7 : decode cJ51_next 7 = .ok (.areturn, 1) := dk_176 (dk_at dksJ51_next_0 7 rfl rfl)
abbrev iJ51_next : xM := (yJ51_next, cJ51_next, 1, (some (.object "java/lang/Object")), [])
theorem mJ51_next : xOkM iJ51_next := ⟨by decide +kernel, by decide, q2395, q196⟩
abbrev cJ51_init : ByteArray := prog_75_method_1_code
def yJ51_init : MethodName := ⟨RJ51, "<init>", "(Ljava/util/LinkedHashMap;Z)V"⟩
def dkwJ51_init_0 : List UInt8 := [42, 43, 28, 183, 0, 1, 177]
abbrev dktJ51_init_0 : List UInt8 := dkwJ51_init_0 ++ []
theorem dksJ51_init_0 : cJ51_init.data.toList.drop 0 = dktJ51_init_0 := by decide +kernel
theorem dJ51_init_0 : decode cJ51_init 0 = .ok (.aload_n 0, 1) := dk_42 (dk_at dksJ51_init_0 0 rfl rfl)
theorem dJ51_init_1 : decode cJ51_init 1 = .ok (.aload_n 1, 1) := dk_43 (dk_at dksJ51_init_0 1 rfl rfl)
theorem dJ51_init_2 : decode cJ51_init 2 = .ok (.iload_n 2, 1) := dk_28 (dk_at dksJ51_init_0 2 rfl rfl)
theorem dJ51_init_3 : decode cJ51_init 3 = .ok (.invokespecial 1, 3) := dk_183 0 1 (dk_at dksJ51_init_0 3 rfl rfl)
theorem dJ51_init_6 : decode cJ51_init 6 = .ok (.return_, 1) := dk_177 (dk_at dksJ51_init_0 6 rfl rfl)
abbrev iJ51_init : xM := (yJ51_init, cJ51_init, 3, none, [])
theorem mJ51_init : xOkM iJ51_init := ⟨by decide +kernel, by decide, q3054, q196⟩
abbrev cJ36_init : ByteArray := prog_53_method_3_code
def yJ36_init : MethodName := ⟨RJ36, "<init>", "()V"⟩
def dkwJ36_init_0 : List UInt8 := [42, 183, 0, 42, 42, 16, 17, 189, 0, 47, 181, 0, 3, 177]
abbrev dktJ36_init_0 : List UInt8 := dkwJ36_init_0 ++ []
theorem dksJ36_init_0 : cJ36_init.data.toList.drop 0 = dktJ36_init_0 := by decide +kernel
theorem dJ36_init_0 : decode cJ36_init 0 = .ok (.aload_n 0, 1) := dk_42 (dk_at dksJ36_init_0 0 rfl rfl)
theorem dJ36_init_1 : decode cJ36_init 1 = .ok (.invokespecial 42, 3) := dk_183 0 42 (dk_at dksJ36_init_0 1 rfl rfl)
theorem dJ36_init_4 : decode cJ36_init 4 = .ok (.aload_n 0, 1) := dk_42 (dk_at dksJ36_init_0 4 rfl rfl)
theorem dJ36_init_5 : decode cJ36_init 5 = .ok (.bipush 17, 2) := dk_16 17 (dk_at dksJ36_init_0 5 rfl rfl)
theorem dJ36_init_7 : decode cJ36_init 7 = .ok (.anewarray 47, 3) := dk_189 0 47 (dk_at dksJ36_init_0 7 rfl rfl)
theorem dJ36_init_10 : decode cJ36_init 10 = .ok (.putfield 3, 3) := dk_181 0 3 (dk_at dksJ36_init_0 10 rfl rfl)
theorem dJ36_init_13 : decode cJ36_init 13 = .ok (.return_, 1) := dk_177 (dk_at dksJ36_init_0 13 rfl rfl)
abbrev iJ36_init : xM := (yJ36_init, cJ36_init, 1, none, [])
theorem mJ36_init : xOkM iJ36_init := ⟨by decide +kernel, by decide, q1930, q174⟩
abbrev cJ36_clear : ByteArray := prog_53_method_53_code
def yJ36_clear : MethodName := ⟨RJ36, "clear", "()V"⟩
def dkwJ36_clear_1 : List UInt8 := [181, 0, 24, 177]
abbrev dktJ36_clear_1 : List UInt8 := dkwJ36_clear_1 ++ []
def dkwJ36_clear_0 : List UInt8 := [42, 180, 0, 3, 42, 180, 0, 24, 42, 180, 0, 20, 184, 0, 181, 42, 42, 3, 90, 181, 0, 20]
abbrev dktJ36_clear_0 : List UInt8 := dkwJ36_clear_0 ++ dktJ36_clear_1
theorem dksJ36_clear_0 : cJ36_clear.data.toList.drop 0 = dktJ36_clear_0 := by decide +kernel
theorem dksJ36_clear_1 : cJ36_clear.data.toList.drop 22 = dktJ36_clear_1 := dk_seg dksJ36_clear_0 22 rfl rfl
theorem dJ36_clear_0 : decode cJ36_clear 0 = .ok (.aload_n 0, 1) := dk_42 (dk_at dksJ36_clear_0 0 rfl rfl)
theorem dJ36_clear_1 : decode cJ36_clear 1 = .ok (.getfield 3, 3) := dk_180 0 3 (dk_at dksJ36_clear_0 1 rfl rfl)
theorem dJ36_clear_4 : decode cJ36_clear 4 = .ok (.aload_n 0, 1) := dk_42 (dk_at dksJ36_clear_0 4 rfl rfl)
theorem dJ36_clear_5 : decode cJ36_clear 5 = .ok (.getfield 24, 3) := dk_180 0 24 (dk_at dksJ36_clear_0 5 rfl rfl)
theorem dJ36_clear_8 : decode cJ36_clear 8 = .ok (.aload_n 0, 1) := dk_42 (dk_at dksJ36_clear_0 8 rfl rfl)
theorem dJ36_clear_9 : decode cJ36_clear 9 = .ok (.getfield 20, 3) := dk_180 0 20 (dk_at dksJ36_clear_0 9 rfl rfl)
theorem dJ36_clear_12 : decode cJ36_clear 12 = .ok (.invokestatic 181, 3) := dk_184 0 181 (dk_at dksJ36_clear_0 12 rfl rfl)
theorem dJ36_clear_15 : decode cJ36_clear 15 = .ok (.aload_n 0, 1) := dk_42 (dk_at dksJ36_clear_0 15 rfl rfl)
theorem dJ36_clear_16 : decode cJ36_clear 16 = .ok (.aload_n 0, 1) := dk_42 (dk_at dksJ36_clear_0 16 rfl rfl)
theorem dJ36_clear_17 : decode cJ36_clear 17 = .ok (.iconst 0, 1) := dk_3 (dk_at dksJ36_clear_0 17 rfl rfl)
theorem dJ36_clear_18 : decode cJ36_clear 18 = .ok (.dup_x1, 1) := dk_90 (dk_at dksJ36_clear_0 18 rfl rfl)
theorem dJ36_clear_19 : decode cJ36_clear 19 = .ok (.putfield 20, 3) := dk_181 0 20 (dk_at dksJ36_clear_0 19 rfl rfl)
theorem dJ36_clear_22 : decode cJ36_clear 22 = .ok (.putfield 24, 3) := dk_181 0 24 (dk_at dksJ36_clear_1 0 rfl rfl)
theorem dJ36_clear_25 : decode cJ36_clear 25 = .ok (.return_, 1) := dk_177 (dk_at dksJ36_clear_1 3 rfl rfl)
abbrev iJ36_clear : xM := (yJ36_clear, cJ36_clear, 1, none, [])
theorem mJ36_clear : xOkM iJ36_clear := ⟨by decide +kernel, by decide, q1954, q174⟩
abbrev cJ36_circularClear : ByteArray := prog_53_method_54_code
def yJ36_circularClear : MethodName := ⟨RJ36, "circularClear", "([Ljava/lang/Object;II)V"⟩
def dkwJ36_circularClear_1 : List UInt8 := [167, 255, 244, 29, 28, 160, 0, 6, 167, 0, 10, 3, 60, 28, 62, 167, 255, 229, 177]
abbrev dktJ36_circularClear_1 : List UInt8 := dkwJ36_circularClear_1 ++ []
def dkwJ36_circularClear_0 : List UInt8 := [27, 28, 163, 0, 7, 28, 167, 0, 5, 42, 190, 62, 27, 29, 162, 0, 13, 42, 27, 1, 83, 132, 1, 1]
abbrev dktJ36_circularClear_0 : List UInt8 := dkwJ36_circularClear_0 ++ dktJ36_circularClear_1
theorem dksJ36_circularClear_0 : cJ36_circularClear.data.toList.drop 0 = dktJ36_circularClear_0 := by decide +kernel
theorem dksJ36_circularClear_1 : cJ36_circularClear.data.toList.drop 24 = dktJ36_circularClear_1 := dk_seg dksJ36_circularClear_0 24 rfl rfl
theorem dJ36_circularClear_0 : decode cJ36_circularClear 0 = .ok (.iload_n 1, 1) := dk_27 (dk_at dksJ36_circularClear_0 0 rfl rfl)
theorem dJ36_circularClear_1 : decode cJ36_circularClear 1 = .ok (.iload_n 2, 1) := dk_28 (dk_at dksJ36_circularClear_0 1 rfl rfl)
theorem dJ36_circularClear_2 : decode cJ36_circularClear 2 = .ok (.if_icmp .gt 7, 3) := dk_163 0 7 (dk_at dksJ36_circularClear_0 2 rfl rfl)
theorem dJ36_circularClear_5 : decode cJ36_circularClear 5 = .ok (.iload_n 2, 1) := dk_28 (dk_at dksJ36_circularClear_0 5 rfl rfl)
theorem dJ36_circularClear_6 : decode cJ36_circularClear 6 = .ok (.goto 5, 3) := dk_167 0 5 (dk_at dksJ36_circularClear_0 6 rfl rfl)
theorem dJ36_circularClear_9 : decode cJ36_circularClear 9 = .ok (.aload_n 0, 1) := dk_42 (dk_at dksJ36_circularClear_0 9 rfl rfl)
theorem dJ36_circularClear_10 : decode cJ36_circularClear 10 = .ok (.arraylength, 1) := dk_190 (dk_at dksJ36_circularClear_0 10 rfl rfl)
theorem dJ36_circularClear_11 : decode cJ36_circularClear 11 = .ok (.istore_n 3, 1) := dk_62 (dk_at dksJ36_circularClear_0 11 rfl rfl)
theorem dJ36_circularClear_12 : decode cJ36_circularClear 12 = .ok (.iload_n 1, 1) := dk_27 (dk_at dksJ36_circularClear_0 12 rfl rfl)
theorem dJ36_circularClear_13 : decode cJ36_circularClear 13 = .ok (.iload_n 3, 1) := dk_29 (dk_at dksJ36_circularClear_0 13 rfl rfl)
theorem dJ36_circularClear_14 : decode cJ36_circularClear 14 = .ok (.if_icmp .ge 13, 3) := dk_162 0 13 (dk_at dksJ36_circularClear_0 14 rfl rfl)
theorem dJ36_circularClear_17 : decode cJ36_circularClear 17 = .ok (.aload_n 0, 1) := dk_42 (dk_at dksJ36_circularClear_0 17 rfl rfl)
theorem dJ36_circularClear_18 : decode cJ36_circularClear 18 = .ok (.iload_n 1, 1) := dk_27 (dk_at dksJ36_circularClear_0 18 rfl rfl)
theorem dJ36_circularClear_19 : decode cJ36_circularClear 19 = .ok (.aconst_null, 1) := dk_1 (dk_at dksJ36_circularClear_0 19 rfl rfl)
theorem dJ36_circularClear_20 : decode cJ36_circularClear 20 = .ok (.aastore, 1) := dk_83 (dk_at dksJ36_circularClear_0 20 rfl rfl)
theorem dJ36_circularClear_21 : decode cJ36_circularClear 21 = .ok (.iinc 1 1, 3) := dk_132 1 1 (dk_at dksJ36_circularClear_0 21 rfl rfl)
theorem dJ36_circularClear_24 : decode cJ36_circularClear 24 = .ok (.goto (-12), 3) := dk_167 255 244 (dk_at dksJ36_circularClear_1 0 rfl rfl)
theorem dJ36_circularClear_27 : decode cJ36_circularClear 27 = .ok (.iload_n 3, 1) := dk_29 (dk_at dksJ36_circularClear_1 3 rfl rfl)
theorem dJ36_circularClear_28 : decode cJ36_circularClear 28 = .ok (.iload_n 2, 1) := dk_28 (dk_at dksJ36_circularClear_1 4 rfl rfl)
theorem dJ36_circularClear_29 : decode cJ36_circularClear 29 = .ok (.if_icmp .ne 6, 3) := dk_160 0 6 (dk_at dksJ36_circularClear_1 5 rfl rfl)
theorem dJ36_circularClear_32 : decode cJ36_circularClear 32 = .ok (.goto 10, 3) := dk_167 0 10 (dk_at dksJ36_circularClear_1 8 rfl rfl)
theorem dJ36_circularClear_35 : decode cJ36_circularClear 35 = .ok (.iconst 0, 1) := dk_3 (dk_at dksJ36_circularClear_1 11 rfl rfl)
theorem dJ36_circularClear_36 : decode cJ36_circularClear 36 = .ok (.istore_n 1, 1) := dk_60 (dk_at dksJ36_circularClear_1 12 rfl rfl)
theorem dJ36_circularClear_37 : decode cJ36_circularClear 37 = .ok (.iload_n 2, 1) := dk_28 (dk_at dksJ36_circularClear_1 13 rfl rfl)
theorem dJ36_circularClear_38 : decode cJ36_circularClear 38 = .ok (.istore_n 3, 1) := dk_62 (dk_at dksJ36_circularClear_1 14 rfl rfl)
theorem dJ36_circularClear_39 : decode cJ36_circularClear 39 = .ok (.goto (-27), 3) := dk_167 255 229 (dk_at dksJ36_circularClear_1 15 rfl rfl)
theorem dJ36_circularClear_42 : decode cJ36_circularClear 42 = .ok (.return_, 1) := dk_177 (dk_at dksJ36_circularClear_1 18 rfl rfl)
abbrev iJ36_circularClear : xM := (yJ36_circularClear, cJ36_circularClear, 4, none, [])
theorem mJ36_circularClear : xOkM iJ36_circularClear := ⟨by decide +kernel, by decide, q1957, q174⟩
abbrev cJ36_nonNullElementAt : ByteArray := prog_53_method_11_code
def yJ36_nonNullElementAt : MethodName := ⟨RJ36, "nonNullElementAt", "([Ljava/lang/Object;I)Ljava/lang/Object;"⟩
def dkwJ36_nonNullElementAt_0 : List UInt8 := [42, 27, 50, 77, 44, 199, 0, 11, 187, 0, 62, 89, 183, 0, 64, 191, 44, 176]
abbrev dktJ36_nonNullElementAt_0 : List UInt8 := dkwJ36_nonNullElementAt_0 ++ []
theorem dksJ36_nonNullElementAt_0 : cJ36_nonNullElementAt.data.toList.drop 0 = dktJ36_nonNullElementAt_0 := by decide +kernel
theorem dJ36_nonNullElementAt_0 : decode cJ36_nonNullElementAt 0 = .ok (.aload_n 0, 1) := dk_42 (dk_at dksJ36_nonNullElementAt_0 0 rfl rfl)
theorem dJ36_nonNullElementAt_1 : decode cJ36_nonNullElementAt 1 = .ok (.iload_n 1, 1) := dk_27 (dk_at dksJ36_nonNullElementAt_0 1 rfl rfl)
theorem dJ36_nonNullElementAt_2 : decode cJ36_nonNullElementAt 2 = .ok (.aaload, 1) := dk_50 (dk_at dksJ36_nonNullElementAt_0 2 rfl rfl)
theorem dJ36_nonNullElementAt_3 : decode cJ36_nonNullElementAt 3 = .ok (.astore_n 2, 1) := dk_77 (dk_at dksJ36_nonNullElementAt_0 3 rfl rfl)
theorem dJ36_nonNullElementAt_4 : decode cJ36_nonNullElementAt 4 = .ok (.aload_n 2, 1) := dk_44 (dk_at dksJ36_nonNullElementAt_0 4 rfl rfl)
theorem dJ36_nonNullElementAt_5 : decode cJ36_nonNullElementAt 5 = .ok (.ifnonnull 11, 3) := dk_199 0 11 (dk_at dksJ36_nonNullElementAt_0 5 rfl rfl)
theorem dJ36_nonNullElementAt_8 : decode cJ36_nonNullElementAt 8 = .ok (.new 62, 3) := dk_187 0 62 (dk_at dksJ36_nonNullElementAt_0 8 rfl rfl)
theorem dJ36_nonNullElementAt_11 : decode cJ36_nonNullElementAt 11 = .ok (.dup, 1) := dk_89 (dk_at dksJ36_nonNullElementAt_0 11 rfl rfl)
theorem dJ36_nonNullElementAt_12 : decode cJ36_nonNullElementAt 12 = .ok (.invokespecial 64, 3) := dk_183 0 64 (dk_at dksJ36_nonNullElementAt_0 12 rfl rfl)
theorem dJ36_nonNullElementAt_15 : decode cJ36_nonNullElementAt 15 = .ok (.athrow, 1) := dk_191 (dk_at dksJ36_nonNullElementAt_0 15 rfl rfl)
theorem dJ36_nonNullElementAt_16 : decode cJ36_nonNullElementAt 16 = .ok (.aload_n 2, 1) := dk_44 (dk_at dksJ36_nonNullElementAt_0 16 rfl rfl)
theorem dJ36_nonNullElementAt_17 : decode cJ36_nonNullElementAt 17 = .ok (.areturn, 1) := dk_176 (dk_at dksJ36_nonNullElementAt_0 17 rfl rfl)
abbrev iJ36_nonNullElementAt : xM := (yJ36_nonNullElementAt, cJ36_nonNullElementAt, 3, (some (.object "java/lang/Object")), [])
theorem mJ36_nonNullElementAt : xOkM iJ36_nonNullElementAt := ⟨by decide +kernel, by decide, q2337, q174⟩
abbrev cJ36_inc : ByteArray := prog_53_method_6_code
def yJ36_inc : MethodName := ⟨RJ36, "inc", "(II)I"⟩
def dkwJ36_inc_0 : List UInt8 := [132, 0, 1, 26, 27, 161, 0, 5, 3, 59, 26, 172]
abbrev dktJ36_inc_0 : List UInt8 := dkwJ36_inc_0 ++ []
theorem dksJ36_inc_0 : cJ36_inc.data.toList.drop 0 = dktJ36_inc_0 := by decide +kernel
theorem dJ36_inc_0 : decode cJ36_inc 0 = .ok (.iinc 0 1, 3) := dk_132 0 1 (dk_at dksJ36_inc_0 0 rfl rfl)
theorem dJ36_inc_3 : decode cJ36_inc 3 = .ok (.iload_n 0, 1) := dk_26 (dk_at dksJ36_inc_0 3 rfl rfl)
theorem dJ36_inc_4 : decode cJ36_inc 4 = .ok (.iload_n 1, 1) := dk_27 (dk_at dksJ36_inc_0 4 rfl rfl)
theorem dJ36_inc_5 : decode cJ36_inc 5 = .ok (.if_icmp .lt 5, 3) := dk_161 0 5 (dk_at dksJ36_inc_0 5 rfl rfl)
theorem dJ36_inc_8 : decode cJ36_inc 8 = .ok (.iconst 0, 1) := dk_3 (dk_at dksJ36_inc_0 8 rfl rfl)
theorem dJ36_inc_9 : decode cJ36_inc 9 = .ok (.istore_n 0, 1) := dk_59 (dk_at dksJ36_inc_0 9 rfl rfl)
theorem dJ36_inc_10 : decode cJ36_inc 10 = .ok (.iload_n 0, 1) := dk_26 (dk_at dksJ36_inc_0 10 rfl rfl)
theorem dJ36_inc_11 : decode cJ36_inc 11 = .ok (.ireturn, 1) := dk_172 (dk_at dksJ36_inc_0 11 rfl rfl)
abbrev iJ36_inc : xM := (yJ36_inc, cJ36_inc, 2, (some .int), [])
theorem mJ36_inc : xOkM iJ36_inc := ⟨by decide +kernel, by decide, q2340, q174⟩
abbrev cJ36_size : ByteArray := prog_53_method_37_code
def yJ36_size : MethodName := ⟨RJ36, "size", "()I"⟩
def dkwJ36_size_0 : List UInt8 := [42, 180, 0, 20, 42, 180, 0, 24, 42, 180, 0, 3, 190, 184, 0, 127, 172]
abbrev dktJ36_size_0 : List UInt8 := dkwJ36_size_0 ++ []
theorem dksJ36_size_0 : cJ36_size.data.toList.drop 0 = dktJ36_size_0 := by decide +kernel
theorem dJ36_size_0 : decode cJ36_size 0 = .ok (.aload_n 0, 1) := dk_42 (dk_at dksJ36_size_0 0 rfl rfl)
theorem dJ36_size_1 : decode cJ36_size 1 = .ok (.getfield 20, 3) := dk_180 0 20 (dk_at dksJ36_size_0 1 rfl rfl)
theorem dJ36_size_4 : decode cJ36_size 4 = .ok (.aload_n 0, 1) := dk_42 (dk_at dksJ36_size_0 4 rfl rfl)
theorem dJ36_size_5 : decode cJ36_size 5 = .ok (.getfield 24, 3) := dk_180 0 24 (dk_at dksJ36_size_0 5 rfl rfl)
theorem dJ36_size_8 : decode cJ36_size 8 = .ok (.aload_n 0, 1) := dk_42 (dk_at dksJ36_size_0 8 rfl rfl)
theorem dJ36_size_9 : decode cJ36_size 9 = .ok (.getfield 3, 3) := dk_180 0 3 (dk_at dksJ36_size_0 9 rfl rfl)
theorem dJ36_size_12 : decode cJ36_size 12 = .ok (.arraylength, 1) := dk_190 (dk_at dksJ36_size_0 12 rfl rfl)
theorem dJ36_size_13 : decode cJ36_size 13 = .ok (.invokestatic 127, 3) := dk_184 0 127 (dk_at dksJ36_size_0 13 rfl rfl)
theorem dJ36_size_16 : decode cJ36_size 16 = .ok (.ireturn, 1) := dk_172 (dk_at dksJ36_size_0 16 rfl rfl)
abbrev iJ36_size : xM := (yJ36_size, cJ36_size, 1, (some .int), [])
theorem mJ36_size : xOkM iJ36_size := ⟨by decide +kernel, by decide, q2830, q174⟩
abbrev cJ36_sub : ByteArray := prog_53_method_9_code
def yJ36_sub : MethodName := ⟨RJ36, "sub", "(III)I"⟩
def dkwJ36_sub_0 : List UInt8 := [26, 27, 100, 89, 59, 156, 0, 7, 26, 28, 96, 59, 26, 172]
abbrev dktJ36_sub_0 : List UInt8 := dkwJ36_sub_0 ++ []
theorem dksJ36_sub_0 : cJ36_sub.data.toList.drop 0 = dktJ36_sub_0 := by decide +kernel
theorem dJ36_sub_0 : decode cJ36_sub 0 = .ok (.iload_n 0, 1) := dk_26 (dk_at dksJ36_sub_0 0 rfl rfl)
theorem dJ36_sub_1 : decode cJ36_sub 1 = .ok (.iload_n 1, 1) := dk_27 (dk_at dksJ36_sub_0 1 rfl rfl)
theorem dJ36_sub_2 : decode cJ36_sub 2 = .ok (.isub, 1) := dk_100 (dk_at dksJ36_sub_0 2 rfl rfl)
theorem dJ36_sub_3 : decode cJ36_sub 3 = .ok (.dup, 1) := dk_89 (dk_at dksJ36_sub_0 3 rfl rfl)
theorem dJ36_sub_4 : decode cJ36_sub 4 = .ok (.istore_n 0, 1) := dk_59 (dk_at dksJ36_sub_0 4 rfl rfl)
theorem dJ36_sub_5 : decode cJ36_sub 5 = .ok (.ifCond .ge 7, 3) := dk_156 0 7 (dk_at dksJ36_sub_0 5 rfl rfl)
theorem dJ36_sub_8 : decode cJ36_sub 8 = .ok (.iload_n 0, 1) := dk_26 (dk_at dksJ36_sub_0 8 rfl rfl)
theorem dJ36_sub_9 : decode cJ36_sub 9 = .ok (.iload_n 2, 1) := dk_28 (dk_at dksJ36_sub_0 9 rfl rfl)
theorem dJ36_sub_10 : decode cJ36_sub 10 = .ok (.iadd, 1) := dk_96 (dk_at dksJ36_sub_0 10 rfl rfl)
theorem dJ36_sub_11 : decode cJ36_sub 11 = .ok (.istore_n 0, 1) := dk_59 (dk_at dksJ36_sub_0 11 rfl rfl)
theorem dJ36_sub_12 : decode cJ36_sub 12 = .ok (.iload_n 0, 1) := dk_26 (dk_at dksJ36_sub_0 12 rfl rfl)
theorem dJ36_sub_13 : decode cJ36_sub 13 = .ok (.ireturn, 1) := dk_172 (dk_at dksJ36_sub_0 13 rfl rfl)
abbrev iJ36_sub : xM := (yJ36_sub, cJ36_sub, 3, (some .int), [])
theorem mJ36_sub : xOkM iJ36_sub := ⟨by decide +kernel, by decide, q2833, q174⟩
abbrev cJ36_removeFirst : ByteArray := prog_53_method_18_code
def yJ36_removeFirst : MethodName := ⟨RJ36, "removeFirst", "()Ljava/lang/Object;"⟩
def dkwJ36_removeFirst_0 : List UInt8 := [42, 182, 0, 93, 76, 43, 199, 0, 11, 187, 0, 97, 89, 183, 0, 99, 191, 43, 176]
abbrev dktJ36_removeFirst_0 : List UInt8 := dkwJ36_removeFirst_0 ++ []
theorem dksJ36_removeFirst_0 : cJ36_removeFirst.data.toList.drop 0 = dktJ36_removeFirst_0 := by decide +kernel
theorem dJ36_removeFirst_0 : decode cJ36_removeFirst 0 = .ok (.aload_n 0, 1) := dk_42 (dk_at dksJ36_removeFirst_0 0 rfl rfl)
theorem dJ36_removeFirst_1 : decode cJ36_removeFirst 1 = .ok (.invokevirtual 93, 3) := dk_182 0 93 (dk_at dksJ36_removeFirst_0 1 rfl rfl)
theorem dJ36_removeFirst_4 : decode cJ36_removeFirst 4 = .ok (.astore_n 1, 1) := dk_76 (dk_at dksJ36_removeFirst_0 4 rfl rfl)
theorem dJ36_removeFirst_5 : decode cJ36_removeFirst 5 = .ok (.aload_n 1, 1) := dk_43 (dk_at dksJ36_removeFirst_0 5 rfl rfl)
theorem dJ36_removeFirst_6 : decode cJ36_removeFirst 6 = .ok (.ifnonnull 11, 3) := dk_199 0 11 (dk_at dksJ36_removeFirst_0 6 rfl rfl)
theorem dJ36_removeFirst_9 : decode cJ36_removeFirst 9 = .ok (.new 97, 3) := dk_187 0 97 (dk_at dksJ36_removeFirst_0 9 rfl rfl)
theorem dJ36_removeFirst_12 : decode cJ36_removeFirst 12 = .ok (.dup, 1) := dk_89 (dk_at dksJ36_removeFirst_0 12 rfl rfl)
theorem dJ36_removeFirst_13 : decode cJ36_removeFirst 13 = .ok (.invokespecial 99, 3) := dk_183 0 99 (dk_at dksJ36_removeFirst_0 13 rfl rfl)
theorem dJ36_removeFirst_16 : decode cJ36_removeFirst 16 = .ok (.athrow, 1) := dk_191 (dk_at dksJ36_removeFirst_0 16 rfl rfl)
theorem dJ36_removeFirst_17 : decode cJ36_removeFirst 17 = .ok (.aload_n 1, 1) := dk_43 (dk_at dksJ36_removeFirst_0 17 rfl rfl)
theorem dJ36_removeFirst_18 : decode cJ36_removeFirst 18 = .ok (.areturn, 1) := dk_176 (dk_at dksJ36_removeFirst_0 18 rfl rfl)
abbrev iJ36_removeFirst : xM := (yJ36_removeFirst, cJ36_removeFirst, 2, (some (.object "java/lang/Object")), [])
theorem mJ36_removeFirst : xOkM iJ36_removeFirst := ⟨by decide +kernel, by decide, q2837, q174⟩
abbrev cJ36_pollFirst : ByteArray := prog_53_method_20_code
def yJ36_pollFirst : MethodName := ⟨RJ36, "pollFirst", "()Ljava/lang/Object;"⟩
def dkwJ36_pollFirst_1 : List UInt8 := [42, 28, 43, 190, 184, 0, 74, 181, 0, 24, 45, 176]
abbrev dktJ36_pollFirst_1 : List UInt8 := dkwJ36_pollFirst_1 ++ []
def dkwJ36_pollFirst_0 : List UInt8 := [42, 180, 0, 3, 89, 76, 42, 180, 0, 24, 89, 61, 184, 0, 103, 78, 45, 198, 0, 17, 43, 28, 1, 83]
abbrev dktJ36_pollFirst_0 : List UInt8 := dkwJ36_pollFirst_0 ++ dktJ36_pollFirst_1
theorem dksJ36_pollFirst_0 : cJ36_pollFirst.data.toList.drop 0 = dktJ36_pollFirst_0 := by decide +kernel
theorem dksJ36_pollFirst_1 : cJ36_pollFirst.data.toList.drop 24 = dktJ36_pollFirst_1 := dk_seg dksJ36_pollFirst_0 24 rfl rfl
theorem dJ36_pollFirst_0 : decode cJ36_pollFirst 0 = .ok (.aload_n 0, 1) := dk_42 (dk_at dksJ36_pollFirst_0 0 rfl rfl)
theorem dJ36_pollFirst_1 : decode cJ36_pollFirst 1 = .ok (.getfield 3, 3) := dk_180 0 3 (dk_at dksJ36_pollFirst_0 1 rfl rfl)
theorem dJ36_pollFirst_4 : decode cJ36_pollFirst 4 = .ok (.dup, 1) := dk_89 (dk_at dksJ36_pollFirst_0 4 rfl rfl)
theorem dJ36_pollFirst_5 : decode cJ36_pollFirst 5 = .ok (.astore_n 1, 1) := dk_76 (dk_at dksJ36_pollFirst_0 5 rfl rfl)
theorem dJ36_pollFirst_6 : decode cJ36_pollFirst 6 = .ok (.aload_n 0, 1) := dk_42 (dk_at dksJ36_pollFirst_0 6 rfl rfl)
theorem dJ36_pollFirst_7 : decode cJ36_pollFirst 7 = .ok (.getfield 24, 3) := dk_180 0 24 (dk_at dksJ36_pollFirst_0 7 rfl rfl)
theorem dJ36_pollFirst_10 : decode cJ36_pollFirst 10 = .ok (.dup, 1) := dk_89 (dk_at dksJ36_pollFirst_0 10 rfl rfl)
theorem dJ36_pollFirst_11 : decode cJ36_pollFirst 11 = .ok (.istore_n 2, 1) := dk_61 (dk_at dksJ36_pollFirst_0 11 rfl rfl)
theorem dJ36_pollFirst_12 : decode cJ36_pollFirst 12 = .ok (.invokestatic 103, 3) := dk_184 0 103 (dk_at dksJ36_pollFirst_0 12 rfl rfl)
theorem dJ36_pollFirst_15 : decode cJ36_pollFirst 15 = .ok (.astore_n 3, 1) := dk_78 (dk_at dksJ36_pollFirst_0 15 rfl rfl)
theorem dJ36_pollFirst_16 : decode cJ36_pollFirst 16 = .ok (.aload_n 3, 1) := dk_45 (dk_at dksJ36_pollFirst_0 16 rfl rfl)
theorem dJ36_pollFirst_17 : decode cJ36_pollFirst 17 = .ok (.ifnull 17, 3) := dk_198 0 17 (dk_at dksJ36_pollFirst_0 17 rfl rfl)
theorem dJ36_pollFirst_20 : decode cJ36_pollFirst 20 = .ok (.aload_n 1, 1) := dk_43 (dk_at dksJ36_pollFirst_0 20 rfl rfl)
theorem dJ36_pollFirst_21 : decode cJ36_pollFirst 21 = .ok (.iload_n 2, 1) := dk_28 (dk_at dksJ36_pollFirst_0 21 rfl rfl)
theorem dJ36_pollFirst_22 : decode cJ36_pollFirst 22 = .ok (.aconst_null, 1) := dk_1 (dk_at dksJ36_pollFirst_0 22 rfl rfl)
theorem dJ36_pollFirst_23 : decode cJ36_pollFirst 23 = .ok (.aastore, 1) := dk_83 (dk_at dksJ36_pollFirst_0 23 rfl rfl)
theorem dJ36_pollFirst_24 : decode cJ36_pollFirst 24 = .ok (.aload_n 0, 1) := dk_42 (dk_at dksJ36_pollFirst_1 0 rfl rfl)
theorem dJ36_pollFirst_25 : decode cJ36_pollFirst 25 = .ok (.iload_n 2, 1) := dk_28 (dk_at dksJ36_pollFirst_1 1 rfl rfl)
theorem dJ36_pollFirst_26 : decode cJ36_pollFirst 26 = .ok (.aload_n 1, 1) := dk_43 (dk_at dksJ36_pollFirst_1 2 rfl rfl)
theorem dJ36_pollFirst_27 : decode cJ36_pollFirst 27 = .ok (.arraylength, 1) := dk_190 (dk_at dksJ36_pollFirst_1 3 rfl rfl)
theorem dJ36_pollFirst_28 : decode cJ36_pollFirst 28 = .ok (.invokestatic 74, 3) := dk_184 0 74 (dk_at dksJ36_pollFirst_1 4 rfl rfl)
theorem dJ36_pollFirst_31 : decode cJ36_pollFirst 31 = .ok (.putfield 24, 3) := dk_181 0 24 (dk_at dksJ36_pollFirst_1 7 rfl rfl)
theorem dJ36_pollFirst_34 : decode cJ36_pollFirst 34 = .ok (.aload_n 3, 1) := dk_45 (dk_at dksJ36_pollFirst_1 10 rfl rfl)
theorem dJ36_pollFirst_35 : decode cJ36_pollFirst 35 = .ok (.areturn, 1) := dk_176 (dk_at dksJ36_pollFirst_1 11 rfl rfl)
abbrev iJ36_pollFirst : xM := (yJ36_pollFirst, cJ36_pollFirst, 4, (some (.object "java/lang/Object")), [])
theorem mJ36_pollFirst : xOkM iJ36_pollFirst := ⟨by decide +kernel, by decide, q2841, q174⟩
abbrev cJ36_elementAt : ByteArray := prog_53_method_10_code
def yJ36_elementAt : MethodName := ⟨RJ36, "elementAt", "([Ljava/lang/Object;I)Ljava/lang/Object;"⟩
def dkwJ36_elementAt_0 : List UInt8 := [42, 27, 50, 176]
abbrev dktJ36_elementAt_0 : List UInt8 := dkwJ36_elementAt_0 ++ []
theorem dksJ36_elementAt_0 : cJ36_elementAt.data.toList.drop 0 = dktJ36_elementAt_0 := by decide +kernel
theorem dJ36_elementAt_0 : decode cJ36_elementAt 0 = .ok (.aload_n 0, 1) := dk_42 (dk_at dksJ36_elementAt_0 0 rfl rfl)
theorem dJ36_elementAt_1 : decode cJ36_elementAt 1 = .ok (.iload_n 1, 1) := dk_27 (dk_at dksJ36_elementAt_0 1 rfl rfl)
theorem dJ36_elementAt_2 : decode cJ36_elementAt 2 = .ok (.aaload, 1) := dk_50 (dk_at dksJ36_elementAt_0 2 rfl rfl)
theorem dJ36_elementAt_3 : decode cJ36_elementAt 3 = .ok (.areturn, 1) := dk_176 (dk_at dksJ36_elementAt_0 3 rfl rfl)
abbrev iJ36_elementAt : xM := (yJ36_elementAt, cJ36_elementAt, 2, (some (.object "java/lang/Object")), [])
theorem mJ36_elementAt : xOkM iJ36_elementAt := ⟨by decide +kernel, by decide, q2844, q174⟩
abbrev cJ36_addLast : ByteArray := prog_53_method_13_code
def yJ36_addLast : MethodName := ⟨RJ36, "addLast", "(Ljava/lang/Object;)V"⟩
def dkwJ36_addLast_2 : List UInt8 := [182, 0, 71, 177]
abbrev dktJ36_addLast_2 : List UInt8 := dkwJ36_addLast_2 ++ []
def dkwJ36_addLast_1 : List UInt8 := [42, 180, 0, 24, 42, 42, 180, 0, 20, 44, 190, 184, 0, 74, 90, 181, 0, 20, 160, 0, 8, 42, 4]
abbrev dktJ36_addLast_1 : List UInt8 := dkwJ36_addLast_1 ++ dktJ36_addLast_2
def dkwJ36_addLast_0 : List UInt8 := [43, 199, 0, 11, 187, 0, 65, 89, 183, 0, 67, 191, 42, 180, 0, 3, 77, 44, 42, 180, 0, 20, 43, 83]
abbrev dktJ36_addLast_0 : List UInt8 := dkwJ36_addLast_0 ++ dktJ36_addLast_1
theorem dksJ36_addLast_0 : cJ36_addLast.data.toList.drop 0 = dktJ36_addLast_0 := by decide +kernel
theorem dksJ36_addLast_1 : cJ36_addLast.data.toList.drop 24 = dktJ36_addLast_1 := dk_seg dksJ36_addLast_0 24 rfl rfl
theorem dksJ36_addLast_2 : cJ36_addLast.data.toList.drop 47 = dktJ36_addLast_2 := dk_seg dksJ36_addLast_1 23 rfl rfl
theorem dJ36_addLast_0 : decode cJ36_addLast 0 = .ok (.aload_n 1, 1) := dk_43 (dk_at dksJ36_addLast_0 0 rfl rfl)
theorem dJ36_addLast_1 : decode cJ36_addLast 1 = .ok (.ifnonnull 11, 3) := dk_199 0 11 (dk_at dksJ36_addLast_0 1 rfl rfl)
theorem dJ36_addLast_4 : decode cJ36_addLast 4 = .ok (.new 65, 3) := dk_187 0 65 (dk_at dksJ36_addLast_0 4 rfl rfl)
theorem dJ36_addLast_7 : decode cJ36_addLast 7 = .ok (.dup, 1) := dk_89 (dk_at dksJ36_addLast_0 7 rfl rfl)
theorem dJ36_addLast_8 : decode cJ36_addLast 8 = .ok (.invokespecial 67, 3) := dk_183 0 67 (dk_at dksJ36_addLast_0 8 rfl rfl)
theorem dJ36_addLast_11 : decode cJ36_addLast 11 = .ok (.athrow, 1) := dk_191 (dk_at dksJ36_addLast_0 11 rfl rfl)
theorem dJ36_addLast_12 : decode cJ36_addLast 12 = .ok (.aload_n 0, 1) := dk_42 (dk_at dksJ36_addLast_0 12 rfl rfl)
theorem dJ36_addLast_13 : decode cJ36_addLast 13 = .ok (.getfield 3, 3) := dk_180 0 3 (dk_at dksJ36_addLast_0 13 rfl rfl)
theorem dJ36_addLast_16 : decode cJ36_addLast 16 = .ok (.astore_n 2, 1) := dk_77 (dk_at dksJ36_addLast_0 16 rfl rfl)
theorem dJ36_addLast_17 : decode cJ36_addLast 17 = .ok (.aload_n 2, 1) := dk_44 (dk_at dksJ36_addLast_0 17 rfl rfl)
theorem dJ36_addLast_18 : decode cJ36_addLast 18 = .ok (.aload_n 0, 1) := dk_42 (dk_at dksJ36_addLast_0 18 rfl rfl)
theorem dJ36_addLast_19 : decode cJ36_addLast 19 = .ok (.getfield 20, 3) := dk_180 0 20 (dk_at dksJ36_addLast_0 19 rfl rfl)
theorem dJ36_addLast_22 : decode cJ36_addLast 22 = .ok (.aload_n 1, 1) := dk_43 (dk_at dksJ36_addLast_0 22 rfl rfl)
theorem dJ36_addLast_23 : decode cJ36_addLast 23 = .ok (.aastore, 1) := dk_83 (dk_at dksJ36_addLast_0 23 rfl rfl)
theorem dJ36_addLast_24 : decode cJ36_addLast 24 = .ok (.aload_n 0, 1) := dk_42 (dk_at dksJ36_addLast_1 0 rfl rfl)
theorem dJ36_addLast_25 : decode cJ36_addLast 25 = .ok (.getfield 24, 3) := dk_180 0 24 (dk_at dksJ36_addLast_1 1 rfl rfl)
theorem dJ36_addLast_28 : decode cJ36_addLast 28 = .ok (.aload_n 0, 1) := dk_42 (dk_at dksJ36_addLast_1 4 rfl rfl)
theorem dJ36_addLast_29 : decode cJ36_addLast 29 = .ok (.aload_n 0, 1) := dk_42 (dk_at dksJ36_addLast_1 5 rfl rfl)
theorem dJ36_addLast_30 : decode cJ36_addLast 30 = .ok (.getfield 20, 3) := dk_180 0 20 (dk_at dksJ36_addLast_1 6 rfl rfl)
theorem dJ36_addLast_33 : decode cJ36_addLast 33 = .ok (.aload_n 2, 1) := dk_44 (dk_at dksJ36_addLast_1 9 rfl rfl)
theorem dJ36_addLast_34 : decode cJ36_addLast 34 = .ok (.arraylength, 1) := dk_190 (dk_at dksJ36_addLast_1 10 rfl rfl)
theorem dJ36_addLast_35 : decode cJ36_addLast 35 = .ok (.invokestatic 74, 3) := dk_184 0 74 (dk_at dksJ36_addLast_1 11 rfl rfl)
theorem dJ36_addLast_38 : decode cJ36_addLast 38 = .ok (.dup_x1, 1) := dk_90 (dk_at dksJ36_addLast_1 14 rfl rfl)
theorem dJ36_addLast_39 : decode cJ36_addLast 39 = .ok (.putfield 20, 3) := dk_181 0 20 (dk_at dksJ36_addLast_1 15 rfl rfl)
theorem dJ36_addLast_42 : decode cJ36_addLast 42 = .ok (.if_icmp .ne 8, 3) := dk_160 0 8 (dk_at dksJ36_addLast_1 18 rfl rfl)
theorem dJ36_addLast_45 : decode cJ36_addLast 45 = .ok (.aload_n 0, 1) := dk_42 (dk_at dksJ36_addLast_1 21 rfl rfl)
theorem dJ36_addLast_46 : decode cJ36_addLast 46 = .ok (.iconst 1, 1) := dk_4 (dk_at dksJ36_addLast_1 22 rfl rfl)
theorem dJ36_addLast_47 : decode cJ36_addLast 47 = .ok (.invokevirtual 71, 3) := dk_182 0 71 (dk_at dksJ36_addLast_2 0 rfl rfl)
theorem dJ36_addLast_50 : decode cJ36_addLast 50 = .ok (.return_, 1) := dk_177 (dk_at dksJ36_addLast_2 3 rfl rfl)
abbrev iJ36_addLast : xM := (yJ36_addLast, cJ36_addLast, 3, none, [])
theorem mJ36_addLast : xOkM iJ36_addLast := ⟨by decide +kernel, by decide, q2850, q174⟩
abbrev cJ36_grow : ByteArray := prog_53_method_1_code
def yJ36_grow : MethodName := ⟨RJ36, "grow", "(I)V"⟩
def dkwJ36_grow_7 : List UInt8 := [177]
abbrev dktJ36_grow_7 : List UInt8 := dkwJ36_grow_7 ++ []
def dkwJ36_grow_6 : List UInt8 := [181, 0, 24, 54, 8, 21, 7, 21, 8, 162, 0, 15, 25, 5, 21, 7, 1, 83, 132, 7, 1, 167, 255, 240]
abbrev dktJ36_grow_6 : List UInt8 := dkwJ36_grow_6 ++ dktJ36_grow_7
def dkwJ36_grow_5 : List UInt8 := [42, 180, 0, 24, 100, 184, 0, 27, 42, 180, 0, 24, 54, 7, 42, 89, 180, 0, 24, 21, 6, 96, 90]
abbrev dktJ36_grow_5 : List UInt8 := dkwJ36_grow_5 ++ dktJ36_grow_6
def dkwJ36_grow_4 : List UInt8 := [198, 0, 71, 29, 28, 100, 54, 6, 25, 5, 42, 180, 0, 24, 25, 5, 42, 180, 0, 24, 21, 6, 96, 28]
abbrev dktJ36_grow_4 : List UInt8 := dkwJ36_grow_4 ++ dktJ36_grow_5
def dkwJ36_grow_3 : List UInt8 := [180, 0, 24, 161, 0, 24, 42, 180, 0, 20, 42, 180, 0, 24, 160, 0, 81, 25, 5, 42, 180, 0, 24, 50]
abbrev dktJ36_grow_3 : List UInt8 := dkwJ36_grow_3 ++ dktJ36_grow_4
def dkwJ36_grow_2 : List UInt8 := [182, 0, 10, 62, 42, 42, 180, 0, 3, 29, 184, 0, 14, 90, 181, 0, 3, 58, 5, 42, 180, 0, 20, 42]
abbrev dktJ36_grow_2 : List UInt8 := dkwJ36_grow_2 ++ dktJ36_grow_3
def dkwJ36_grow_1 : List UInt8 := [21, 4, 27, 161, 0, 15, 28, 21, 4, 96, 89, 62, 18, 9, 100, 158, 0, 11, 42, 27, 21, 4]
abbrev dktJ36_grow_1 : List UInt8 := dkwJ36_grow_1 ++ dktJ36_grow_2
def dkwJ36_grow_0 : List UInt8 := [42, 180, 0, 3, 190, 61, 28, 16, 64, 162, 0, 9, 28, 5, 96, 167, 0, 6, 28, 4, 122, 54, 4]
abbrev dktJ36_grow_0 : List UInt8 := dkwJ36_grow_0 ++ dktJ36_grow_1
theorem dksJ36_grow_0 : cJ36_grow.data.toList.drop 0 = dktJ36_grow_0 := by decide +kernel
theorem dksJ36_grow_1 : cJ36_grow.data.toList.drop 23 = dktJ36_grow_1 := dk_seg dksJ36_grow_0 23 rfl rfl
theorem dksJ36_grow_2 : cJ36_grow.data.toList.drop 45 = dktJ36_grow_2 := dk_seg dksJ36_grow_1 22 rfl rfl
theorem dksJ36_grow_3 : cJ36_grow.data.toList.drop 69 = dktJ36_grow_3 := dk_seg dksJ36_grow_2 24 rfl rfl
theorem dksJ36_grow_4 : cJ36_grow.data.toList.drop 93 = dktJ36_grow_4 := dk_seg dksJ36_grow_3 24 rfl rfl
theorem dksJ36_grow_5 : cJ36_grow.data.toList.drop 117 = dktJ36_grow_5 := dk_seg dksJ36_grow_4 24 rfl rfl
theorem dksJ36_grow_6 : cJ36_grow.data.toList.drop 140 = dktJ36_grow_6 := dk_seg dksJ36_grow_5 23 rfl rfl
theorem dksJ36_grow_7 : cJ36_grow.data.toList.drop 164 = dktJ36_grow_7 := dk_seg dksJ36_grow_6 24 rfl rfl
theorem dJ36_grow_0 : decode cJ36_grow 0 = .ok (.aload_n 0, 1) := dk_42 (dk_at dksJ36_grow_0 0 rfl rfl)
theorem dJ36_grow_1 : decode cJ36_grow 1 = .ok (.getfield 3, 3) := dk_180 0 3 (dk_at dksJ36_grow_0 1 rfl rfl)
theorem dJ36_grow_4 : decode cJ36_grow 4 = .ok (.arraylength, 1) := dk_190 (dk_at dksJ36_grow_0 4 rfl rfl)
theorem dJ36_grow_5 : decode cJ36_grow 5 = .ok (.istore_n 2, 1) := dk_61 (dk_at dksJ36_grow_0 5 rfl rfl)
theorem dJ36_grow_6 : decode cJ36_grow 6 = .ok (.iload_n 2, 1) := dk_28 (dk_at dksJ36_grow_0 6 rfl rfl)
theorem dJ36_grow_7 : decode cJ36_grow 7 = .ok (.bipush 64, 2) := dk_16 64 (dk_at dksJ36_grow_0 7 rfl rfl)
theorem dJ36_grow_9 : decode cJ36_grow 9 = .ok (.if_icmp .ge 9, 3) := dk_162 0 9 (dk_at dksJ36_grow_0 9 rfl rfl)
theorem dJ36_grow_12 : decode cJ36_grow 12 = .ok (.iload_n 2, 1) := dk_28 (dk_at dksJ36_grow_0 12 rfl rfl)
theorem dJ36_grow_13 : decode cJ36_grow 13 = .ok (.iconst 2, 1) := dk_5 (dk_at dksJ36_grow_0 13 rfl rfl)
theorem dJ36_grow_14 : decode cJ36_grow 14 = .ok (.iadd, 1) := dk_96 (dk_at dksJ36_grow_0 14 rfl rfl)
theorem dJ36_grow_15 : decode cJ36_grow 15 = .ok (.goto 6, 3) := dk_167 0 6 (dk_at dksJ36_grow_0 15 rfl rfl)
theorem dJ36_grow_18 : decode cJ36_grow 18 = .ok (.iload_n 2, 1) := dk_28 (dk_at dksJ36_grow_0 18 rfl rfl)
theorem dJ36_grow_19 : decode cJ36_grow 19 = .ok (.iconst 1, 1) := dk_4 (dk_at dksJ36_grow_0 19 rfl rfl)
theorem dJ36_grow_20 : decode cJ36_grow 20 = .ok (.ishr, 1) := dk_122 (dk_at dksJ36_grow_0 20 rfl rfl)
theorem dJ36_grow_21 : decode cJ36_grow 21 = .ok (.istore 4, 2) := dk_54 4 (dk_at dksJ36_grow_0 21 rfl rfl)
theorem dJ36_grow_23 : decode cJ36_grow 23 = .ok (.iload 4, 2) := dk_21 4 (dk_at dksJ36_grow_1 0 rfl rfl)
theorem dJ36_grow_25 : decode cJ36_grow 25 = .ok (.iload_n 1, 1) := dk_27 (dk_at dksJ36_grow_1 2 rfl rfl)
theorem dJ36_grow_26 : decode cJ36_grow 26 = .ok (.if_icmp .lt 15, 3) := dk_161 0 15 (dk_at dksJ36_grow_1 3 rfl rfl)
theorem dJ36_grow_29 : decode cJ36_grow 29 = .ok (.iload_n 2, 1) := dk_28 (dk_at dksJ36_grow_1 6 rfl rfl)
theorem dJ36_grow_30 : decode cJ36_grow 30 = .ok (.iload 4, 2) := dk_21 4 (dk_at dksJ36_grow_1 7 rfl rfl)
theorem dJ36_grow_32 : decode cJ36_grow 32 = .ok (.iadd, 1) := dk_96 (dk_at dksJ36_grow_1 9 rfl rfl)
theorem dJ36_grow_33 : decode cJ36_grow 33 = .ok (.dup, 1) := dk_89 (dk_at dksJ36_grow_1 10 rfl rfl)
theorem dJ36_grow_34 : decode cJ36_grow 34 = .ok (.istore_n 3, 1) := dk_62 (dk_at dksJ36_grow_1 11 rfl rfl)
theorem dJ36_grow_35 : decode cJ36_grow 35 = .ok (.ldc 9, 2) := dk_18 9 (dk_at dksJ36_grow_1 12 rfl rfl)
theorem dJ36_grow_37 : decode cJ36_grow 37 = .ok (.isub, 1) := dk_100 (dk_at dksJ36_grow_1 14 rfl rfl)
theorem dJ36_grow_38 : decode cJ36_grow 38 = .ok (.ifCond .le 11, 3) := dk_158 0 11 (dk_at dksJ36_grow_1 15 rfl rfl)
theorem dJ36_grow_41 : decode cJ36_grow 41 = .ok (.aload_n 0, 1) := dk_42 (dk_at dksJ36_grow_1 18 rfl rfl)
theorem dJ36_grow_42 : decode cJ36_grow 42 = .ok (.iload_n 1, 1) := dk_27 (dk_at dksJ36_grow_1 19 rfl rfl)
theorem dJ36_grow_43 : decode cJ36_grow 43 = .ok (.iload 4, 2) := dk_21 4 (dk_at dksJ36_grow_1 20 rfl rfl)
theorem dJ36_grow_45 : decode cJ36_grow 45 = .ok (.invokevirtual 10, 3) := dk_182 0 10 (dk_at dksJ36_grow_2 0 rfl rfl)
theorem dJ36_grow_48 : decode cJ36_grow 48 = .ok (.istore_n 3, 1) := dk_62 (dk_at dksJ36_grow_2 3 rfl rfl)
theorem dJ36_grow_49 : decode cJ36_grow 49 = .ok (.aload_n 0, 1) := dk_42 (dk_at dksJ36_grow_2 4 rfl rfl)
theorem dJ36_grow_50 : decode cJ36_grow 50 = .ok (.aload_n 0, 1) := dk_42 (dk_at dksJ36_grow_2 5 rfl rfl)
theorem dJ36_grow_51 : decode cJ36_grow 51 = .ok (.getfield 3, 3) := dk_180 0 3 (dk_at dksJ36_grow_2 6 rfl rfl)
theorem dJ36_grow_54 : decode cJ36_grow 54 = .ok (.iload_n 3, 1) := dk_29 (dk_at dksJ36_grow_2 9 rfl rfl)
theorem dJ36_grow_55 : decode cJ36_grow 55 = .ok (.invokestatic 14, 3) := dk_184 0 14 (dk_at dksJ36_grow_2 10 rfl rfl)
theorem dJ36_grow_58 : decode cJ36_grow 58 = .ok (.dup_x1, 1) := dk_90 (dk_at dksJ36_grow_2 13 rfl rfl)
theorem dJ36_grow_59 : decode cJ36_grow 59 = .ok (.putfield 3, 3) := dk_181 0 3 (dk_at dksJ36_grow_2 14 rfl rfl)
theorem dJ36_grow_62 : decode cJ36_grow 62 = .ok (.astore 5, 2) := dk_58 5 (dk_at dksJ36_grow_2 17 rfl rfl)
theorem dJ36_grow_64 : decode cJ36_grow 64 = .ok (.aload_n 0, 1) := dk_42 (dk_at dksJ36_grow_2 19 rfl rfl)
theorem dJ36_grow_65 : decode cJ36_grow 65 = .ok (.getfield 20, 3) := dk_180 0 20 (dk_at dksJ36_grow_2 20 rfl rfl)
theorem dJ36_grow_68 : decode cJ36_grow 68 = .ok (.aload_n 0, 1) := dk_42 (dk_at dksJ36_grow_2 23 rfl rfl)
theorem dJ36_grow_69 : decode cJ36_grow 69 = .ok (.getfield 24, 3) := dk_180 0 24 (dk_at dksJ36_grow_3 0 rfl rfl)
theorem dJ36_grow_72 : decode cJ36_grow 72 = .ok (.if_icmp .lt 24, 3) := dk_161 0 24 (dk_at dksJ36_grow_3 3 rfl rfl)
theorem dJ36_grow_75 : decode cJ36_grow 75 = .ok (.aload_n 0, 1) := dk_42 (dk_at dksJ36_grow_3 6 rfl rfl)
theorem dJ36_grow_76 : decode cJ36_grow 76 = .ok (.getfield 20, 3) := dk_180 0 20 (dk_at dksJ36_grow_3 7 rfl rfl)
theorem dJ36_grow_79 : decode cJ36_grow 79 = .ok (.aload_n 0, 1) := dk_42 (dk_at dksJ36_grow_3 10 rfl rfl)
theorem dJ36_grow_80 : decode cJ36_grow 80 = .ok (.getfield 24, 3) := dk_180 0 24 (dk_at dksJ36_grow_3 11 rfl rfl)
theorem dJ36_grow_83 : decode cJ36_grow 83 = .ok (.if_icmp .ne 81, 3) := dk_160 0 81 (dk_at dksJ36_grow_3 14 rfl rfl)
theorem dJ36_grow_86 : decode cJ36_grow 86 = .ok (.aload 5, 2) := dk_25 5 (dk_at dksJ36_grow_3 17 rfl rfl)
theorem dJ36_grow_88 : decode cJ36_grow 88 = .ok (.aload_n 0, 1) := dk_42 (dk_at dksJ36_grow_3 19 rfl rfl)
theorem dJ36_grow_89 : decode cJ36_grow 89 = .ok (.getfield 24, 3) := dk_180 0 24 (dk_at dksJ36_grow_3 20 rfl rfl)
theorem dJ36_grow_92 : decode cJ36_grow 92 = .ok (.aaload, 1) := dk_50 (dk_at dksJ36_grow_3 23 rfl rfl)
theorem dJ36_grow_93 : decode cJ36_grow 93 = .ok (.ifnull 71, 3) := dk_198 0 71 (dk_at dksJ36_grow_4 0 rfl rfl)
theorem dJ36_grow_96 : decode cJ36_grow 96 = .ok (.iload_n 3, 1) := dk_29 (dk_at dksJ36_grow_4 3 rfl rfl)
theorem dJ36_grow_97 : decode cJ36_grow 97 = .ok (.iload_n 2, 1) := dk_28 (dk_at dksJ36_grow_4 4 rfl rfl)
theorem dJ36_grow_98 : decode cJ36_grow 98 = .ok (.isub, 1) := dk_100 (dk_at dksJ36_grow_4 5 rfl rfl)
theorem dJ36_grow_99 : decode cJ36_grow 99 = .ok (.istore 6, 2) := dk_54 6 (dk_at dksJ36_grow_4 6 rfl rfl)
theorem dJ36_grow_101 : decode cJ36_grow 101 = .ok (.aload 5, 2) := dk_25 5 (dk_at dksJ36_grow_4 8 rfl rfl)
theorem dJ36_grow_103 : decode cJ36_grow 103 = .ok (.aload_n 0, 1) := dk_42 (dk_at dksJ36_grow_4 10 rfl rfl)
theorem dJ36_grow_104 : decode cJ36_grow 104 = .ok (.getfield 24, 3) := dk_180 0 24 (dk_at dksJ36_grow_4 11 rfl rfl)
theorem dJ36_grow_107 : decode cJ36_grow 107 = .ok (.aload 5, 2) := dk_25 5 (dk_at dksJ36_grow_4 14 rfl rfl)
theorem dJ36_grow_109 : decode cJ36_grow 109 = .ok (.aload_n 0, 1) := dk_42 (dk_at dksJ36_grow_4 16 rfl rfl)
theorem dJ36_grow_110 : decode cJ36_grow 110 = .ok (.getfield 24, 3) := dk_180 0 24 (dk_at dksJ36_grow_4 17 rfl rfl)
theorem dJ36_grow_113 : decode cJ36_grow 113 = .ok (.iload 6, 2) := dk_21 6 (dk_at dksJ36_grow_4 20 rfl rfl)
theorem dJ36_grow_115 : decode cJ36_grow 115 = .ok (.iadd, 1) := dk_96 (dk_at dksJ36_grow_4 22 rfl rfl)
theorem dJ36_grow_116 : decode cJ36_grow 116 = .ok (.iload_n 2, 1) := dk_28 (dk_at dksJ36_grow_4 23 rfl rfl)
theorem dJ36_grow_117 : decode cJ36_grow 117 = .ok (.aload_n 0, 1) := dk_42 (dk_at dksJ36_grow_5 0 rfl rfl)
theorem dJ36_grow_118 : decode cJ36_grow 118 = .ok (.getfield 24, 3) := dk_180 0 24 (dk_at dksJ36_grow_5 1 rfl rfl)
theorem dJ36_grow_121 : decode cJ36_grow 121 = .ok (.isub, 1) := dk_100 (dk_at dksJ36_grow_5 4 rfl rfl)
theorem dJ36_grow_122 : decode cJ36_grow 122 = .ok (.invokestatic 27, 3) := dk_184 0 27 (dk_at dksJ36_grow_5 5 rfl rfl)
theorem dJ36_grow_125 : decode cJ36_grow 125 = .ok (.aload_n 0, 1) := dk_42 (dk_at dksJ36_grow_5 8 rfl rfl)
theorem dJ36_grow_126 : decode cJ36_grow 126 = .ok (.getfield 24, 3) := dk_180 0 24 (dk_at dksJ36_grow_5 9 rfl rfl)
theorem dJ36_grow_129 : decode cJ36_grow 129 = .ok (.istore 7, 2) := dk_54 7 (dk_at dksJ36_grow_5 12 rfl rfl)
theorem dJ36_grow_131 : decode cJ36_grow 131 = .ok (.aload_n 0, 1) := dk_42 (dk_at dksJ36_grow_5 14 rfl rfl)
theorem dJ36_grow_132 : decode cJ36_grow 132 = .ok (.dup, 1) := dk_89 (dk_at dksJ36_grow_5 15 rfl rfl)
theorem dJ36_grow_133 : decode cJ36_grow 133 = .ok (.getfield 24, 3) := dk_180 0 24 (dk_at dksJ36_grow_5 16 rfl rfl)
theorem dJ36_grow_136 : decode cJ36_grow 136 = .ok (.iload 6, 2) := dk_21 6 (dk_at dksJ36_grow_5 19 rfl rfl)
theorem dJ36_grow_138 : decode cJ36_grow 138 = .ok (.iadd, 1) := dk_96 (dk_at dksJ36_grow_5 21 rfl rfl)
theorem dJ36_grow_139 : decode cJ36_grow 139 = .ok (.dup_x1, 1) := dk_90 (dk_at dksJ36_grow_5 22 rfl rfl)
theorem dJ36_grow_140 : decode cJ36_grow 140 = .ok (.putfield 24, 3) := dk_181 0 24 (dk_at dksJ36_grow_6 0 rfl rfl)
theorem dJ36_grow_143 : decode cJ36_grow 143 = .ok (.istore 8, 2) := dk_54 8 (dk_at dksJ36_grow_6 3 rfl rfl)
theorem dJ36_grow_145 : decode cJ36_grow 145 = .ok (.iload 7, 2) := dk_21 7 (dk_at dksJ36_grow_6 5 rfl rfl)
theorem dJ36_grow_147 : decode cJ36_grow 147 = .ok (.iload 8, 2) := dk_21 8 (dk_at dksJ36_grow_6 7 rfl rfl)
theorem dJ36_grow_149 : decode cJ36_grow 149 = .ok (.if_icmp .ge 15, 3) := dk_162 0 15 (dk_at dksJ36_grow_6 9 rfl rfl)
theorem dJ36_grow_152 : decode cJ36_grow 152 = .ok (.aload 5, 2) := dk_25 5 (dk_at dksJ36_grow_6 12 rfl rfl)
theorem dJ36_grow_154 : decode cJ36_grow 154 = .ok (.iload 7, 2) := dk_21 7 (dk_at dksJ36_grow_6 14 rfl rfl)
theorem dJ36_grow_156 : decode cJ36_grow 156 = .ok (.aconst_null, 1) := dk_1 (dk_at dksJ36_grow_6 16 rfl rfl)
theorem dJ36_grow_157 : decode cJ36_grow 157 = .ok (.aastore, 1) := dk_83 (dk_at dksJ36_grow_6 17 rfl rfl)
theorem dJ36_grow_158 : decode cJ36_grow 158 = .ok (.iinc 7 1, 3) := dk_132 7 1 (dk_at dksJ36_grow_6 18 rfl rfl)
theorem dJ36_grow_161 : decode cJ36_grow 161 = .ok (.goto (-16), 3) := dk_167 255 240 (dk_at dksJ36_grow_6 21 rfl rfl)
theorem dJ36_grow_164 : decode cJ36_grow 164 = .ok (.return_, 1) := dk_177 (dk_at dksJ36_grow_7 0 rfl rfl)
abbrev iJ36_grow : xM := (yJ36_grow, cJ36_grow, 9, none, [])
theorem mJ36_grow : xOkM iJ36_grow := ⟨by decide +kernel, by decide, q2854, q174⟩
abbrev cJ36_newCapacity : ByteArray := prog_53_method_2_code
def yJ36_newCapacity : MethodName := ⟨RJ36, "newCapacity", "(II)I"⟩
def dkwJ36_newCapacity_2 : List UInt8 := [18, 9, 100, 156, 0, 9, 29, 28, 96, 167, 0, 5, 18, 9, 172]
abbrev dktJ36_newCapacity_2 : List UInt8 := dkwJ36_newCapacity_2 ++ []
def dkwJ36_newCapacity_1 : List UInt8 := [187, 0, 33, 89, 18, 35, 183, 0, 37, 191, 18, 41, 172, 27, 28, 164, 0, 6, 21, 4, 172, 29, 28, 96]
abbrev dktJ36_newCapacity_1 : List UInt8 := dkwJ36_newCapacity_1 ++ dktJ36_newCapacity_2
def dkwJ36_newCapacity_0 : List UInt8 := [42, 180, 0, 3, 190, 62, 29, 27, 96, 89, 54, 4, 18, 9, 100, 158, 0, 21, 21, 4, 156, 0, 13]
abbrev dktJ36_newCapacity_0 : List UInt8 := dkwJ36_newCapacity_0 ++ dktJ36_newCapacity_1
theorem dksJ36_newCapacity_0 : cJ36_newCapacity.data.toList.drop 0 = dktJ36_newCapacity_0 := by decide +kernel
theorem dksJ36_newCapacity_1 : cJ36_newCapacity.data.toList.drop 23 = dktJ36_newCapacity_1 := dk_seg dksJ36_newCapacity_0 23 rfl rfl
theorem dksJ36_newCapacity_2 : cJ36_newCapacity.data.toList.drop 47 = dktJ36_newCapacity_2 := dk_seg dksJ36_newCapacity_1 24 rfl rfl
theorem dJ36_newCapacity_0 : decode cJ36_newCapacity 0 = .ok (.aload_n 0, 1) := dk_42 (dk_at dksJ36_newCapacity_0 0 rfl rfl)
theorem dJ36_newCapacity_1 : decode cJ36_newCapacity 1 = .ok (.getfield 3, 3) := dk_180 0 3 (dk_at dksJ36_newCapacity_0 1 rfl rfl)
theorem dJ36_newCapacity_4 : decode cJ36_newCapacity 4 = .ok (.arraylength, 1) := dk_190 (dk_at dksJ36_newCapacity_0 4 rfl rfl)
theorem dJ36_newCapacity_5 : decode cJ36_newCapacity 5 = .ok (.istore_n 3, 1) := dk_62 (dk_at dksJ36_newCapacity_0 5 rfl rfl)
theorem dJ36_newCapacity_6 : decode cJ36_newCapacity 6 = .ok (.iload_n 3, 1) := dk_29 (dk_at dksJ36_newCapacity_0 6 rfl rfl)
theorem dJ36_newCapacity_7 : decode cJ36_newCapacity 7 = .ok (.iload_n 1, 1) := dk_27 (dk_at dksJ36_newCapacity_0 7 rfl rfl)
theorem dJ36_newCapacity_8 : decode cJ36_newCapacity 8 = .ok (.iadd, 1) := dk_96 (dk_at dksJ36_newCapacity_0 8 rfl rfl)
theorem dJ36_newCapacity_9 : decode cJ36_newCapacity 9 = .ok (.dup, 1) := dk_89 (dk_at dksJ36_newCapacity_0 9 rfl rfl)
theorem dJ36_newCapacity_10 : decode cJ36_newCapacity 10 = .ok (.istore 4, 2) := dk_54 4 (dk_at dksJ36_newCapacity_0 10 rfl rfl)
theorem dJ36_newCapacity_12 : decode cJ36_newCapacity 12 = .ok (.ldc 9, 2) := dk_18 9 (dk_at dksJ36_newCapacity_0 12 rfl rfl)
theorem dJ36_newCapacity_14 : decode cJ36_newCapacity 14 = .ok (.isub, 1) := dk_100 (dk_at dksJ36_newCapacity_0 14 rfl rfl)
theorem dJ36_newCapacity_15 : decode cJ36_newCapacity 15 = .ok (.ifCond .le 21, 3) := dk_158 0 21 (dk_at dksJ36_newCapacity_0 15 rfl rfl)
theorem dJ36_newCapacity_18 : decode cJ36_newCapacity 18 = .ok (.iload 4, 2) := dk_21 4 (dk_at dksJ36_newCapacity_0 18 rfl rfl)
theorem dJ36_newCapacity_20 : decode cJ36_newCapacity 20 = .ok (.ifCond .ge 13, 3) := dk_156 0 13 (dk_at dksJ36_newCapacity_0 20 rfl rfl)
theorem dJ36_newCapacity_23 : decode cJ36_newCapacity 23 = .ok (.new 33, 3) := dk_187 0 33 (dk_at dksJ36_newCapacity_1 0 rfl rfl)
theorem dJ36_newCapacity_26 : decode cJ36_newCapacity 26 = .ok (.dup, 1) := dk_89 (dk_at dksJ36_newCapacity_1 3 rfl rfl)
theorem dJ36_newCapacity_27 : decode cJ36_newCapacity 27 = .ok (.ldc 35, 2) := dk_18 35 (dk_at dksJ36_newCapacity_1 4 rfl rfl)
theorem dJ36_newCapacity_29 : decode cJ36_newCapacity 29 = .ok (.invokespecial 37, 3) := dk_183 0 37 (dk_at dksJ36_newCapacity_1 6 rfl rfl)
theorem dJ36_newCapacity_32 : decode cJ36_newCapacity 32 = .ok (.athrow, 1) := dk_191 (dk_at dksJ36_newCapacity_1 9 rfl rfl)
theorem dJ36_newCapacity_33 : decode cJ36_newCapacity 33 = .ok (.ldc 41, 2) := dk_18 41 (dk_at dksJ36_newCapacity_1 10 rfl rfl)
theorem dJ36_newCapacity_35 : decode cJ36_newCapacity 35 = .ok (.ireturn, 1) := dk_172 (dk_at dksJ36_newCapacity_1 12 rfl rfl)
theorem dJ36_newCapacity_36 : decode cJ36_newCapacity 36 = .ok (.iload_n 1, 1) := dk_27 (dk_at dksJ36_newCapacity_1 13 rfl rfl)
theorem dJ36_newCapacity_37 : decode cJ36_newCapacity 37 = .ok (.iload_n 2, 1) := dk_28 (dk_at dksJ36_newCapacity_1 14 rfl rfl)
theorem dJ36_newCapacity_38 : decode cJ36_newCapacity 38 = .ok (.if_icmp .le 6, 3) := dk_164 0 6 (dk_at dksJ36_newCapacity_1 15 rfl rfl)
theorem dJ36_newCapacity_41 : decode cJ36_newCapacity 41 = .ok (.iload 4, 2) := dk_21 4 (dk_at dksJ36_newCapacity_1 18 rfl rfl)
theorem dJ36_newCapacity_43 : decode cJ36_newCapacity 43 = .ok (.ireturn, 1) := dk_172 (dk_at dksJ36_newCapacity_1 20 rfl rfl)
theorem dJ36_newCapacity_44 : decode cJ36_newCapacity 44 = .ok (.iload_n 3, 1) := dk_29 (dk_at dksJ36_newCapacity_1 21 rfl rfl)
theorem dJ36_newCapacity_45 : decode cJ36_newCapacity 45 = .ok (.iload_n 2, 1) := dk_28 (dk_at dksJ36_newCapacity_1 22 rfl rfl)
theorem dJ36_newCapacity_46 : decode cJ36_newCapacity 46 = .ok (.iadd, 1) := dk_96 (dk_at dksJ36_newCapacity_1 23 rfl rfl)
theorem dJ36_newCapacity_47 : decode cJ36_newCapacity 47 = .ok (.ldc 9, 2) := dk_18 9 (dk_at dksJ36_newCapacity_2 0 rfl rfl)
theorem dJ36_newCapacity_49 : decode cJ36_newCapacity 49 = .ok (.isub, 1) := dk_100 (dk_at dksJ36_newCapacity_2 2 rfl rfl)
theorem dJ36_newCapacity_50 : decode cJ36_newCapacity 50 = .ok (.ifCond .ge 9, 3) := dk_156 0 9 (dk_at dksJ36_newCapacity_2 3 rfl rfl)
theorem dJ36_newCapacity_53 : decode cJ36_newCapacity 53 = .ok (.iload_n 3, 1) := dk_29 (dk_at dksJ36_newCapacity_2 6 rfl rfl)
theorem dJ36_newCapacity_54 : decode cJ36_newCapacity 54 = .ok (.iload_n 2, 1) := dk_28 (dk_at dksJ36_newCapacity_2 7 rfl rfl)
theorem dJ36_newCapacity_55 : decode cJ36_newCapacity 55 = .ok (.iadd, 1) := dk_96 (dk_at dksJ36_newCapacity_2 8 rfl rfl)
theorem dJ36_newCapacity_56 : decode cJ36_newCapacity 56 = .ok (.goto 5, 3) := dk_167 0 5 (dk_at dksJ36_newCapacity_2 9 rfl rfl)
theorem dJ36_newCapacity_59 : decode cJ36_newCapacity 59 = .ok (.ldc 9, 2) := dk_18 9 (dk_at dksJ36_newCapacity_2 12 rfl rfl)
theorem dJ36_newCapacity_61 : decode cJ36_newCapacity 61 = .ok (.ireturn, 1) := dk_172 (dk_at dksJ36_newCapacity_2 14 rfl rfl)
abbrev iJ36_newCapacity : xM := (yJ36_newCapacity, cJ36_newCapacity, 5, (some .int), [])
theorem mJ36_newCapacity : xOkM iJ36_newCapacity := ⟨by decide +kernel, by decide, q2859, q174⟩
abbrev cJ36_iterator : ByteArray := prog_53_method_39_code
def yJ36_iterator : MethodName := ⟨RJ36, "iterator", "()Ljava/util/Iterator;"⟩
def dkwJ36_iterator_0 : List UInt8 := [187, 0, 131, 89, 42, 183, 0, 133, 176]
abbrev dktJ36_iterator_0 : List UInt8 := dkwJ36_iterator_0 ++ []
theorem dksJ36_iterator_0 : cJ36_iterator.data.toList.drop 0 = dktJ36_iterator_0 := by decide +kernel
theorem dJ36_iterator_0 : decode cJ36_iterator 0 = .ok (.new 131, 3) := dk_187 0 131 (dk_at dksJ36_iterator_0 0 rfl rfl)
theorem dJ36_iterator_3 : decode cJ36_iterator 3 = .ok (.dup, 1) := dk_89 (dk_at dksJ36_iterator_0 3 rfl rfl)
theorem dJ36_iterator_4 : decode cJ36_iterator 4 = .ok (.aload_n 0, 1) := dk_42 (dk_at dksJ36_iterator_0 4 rfl rfl)
theorem dJ36_iterator_5 : decode cJ36_iterator 5 = .ok (.invokespecial 133, 3) := dk_183 0 133 (dk_at dksJ36_iterator_0 5 rfl rfl)
theorem dJ36_iterator_8 : decode cJ36_iterator 8 = .ok (.areturn, 1) := dk_176 (dk_at dksJ36_iterator_0 8 rfl rfl)
abbrev iJ36_iterator : xM := (yJ36_iterator, cJ36_iterator, 1, (some (.object "java/util/Iterator")), [])
theorem mJ36_iterator : xOkM iJ36_iterator := ⟨by decide +kernel, by decide, q3013, q174⟩
abbrev cJ36_isEmpty : ByteArray := prog_53_method_38_code
def yJ36_isEmpty : MethodName := ⟨RJ36, "isEmpty", "()Z"⟩
def dkwJ36_isEmpty_0 : List UInt8 := [42, 180, 0, 24, 42, 180, 0, 20, 160, 0, 7, 4, 167, 0, 4, 3, 172]
abbrev dktJ36_isEmpty_0 : List UInt8 := dkwJ36_isEmpty_0 ++ []
theorem dksJ36_isEmpty_0 : cJ36_isEmpty.data.toList.drop 0 = dktJ36_isEmpty_0 := by decide +kernel
theorem dJ36_isEmpty_0 : decode cJ36_isEmpty 0 = .ok (.aload_n 0, 1) := dk_42 (dk_at dksJ36_isEmpty_0 0 rfl rfl)
theorem dJ36_isEmpty_1 : decode cJ36_isEmpty 1 = .ok (.getfield 24, 3) := dk_180 0 24 (dk_at dksJ36_isEmpty_0 1 rfl rfl)
theorem dJ36_isEmpty_4 : decode cJ36_isEmpty 4 = .ok (.aload_n 0, 1) := dk_42 (dk_at dksJ36_isEmpty_0 4 rfl rfl)
theorem dJ36_isEmpty_5 : decode cJ36_isEmpty 5 = .ok (.getfield 20, 3) := dk_180 0 20 (dk_at dksJ36_isEmpty_0 5 rfl rfl)
theorem dJ36_isEmpty_8 : decode cJ36_isEmpty 8 = .ok (.if_icmp .ne 7, 3) := dk_160 0 7 (dk_at dksJ36_isEmpty_0 8 rfl rfl)
theorem dJ36_isEmpty_11 : decode cJ36_isEmpty 11 = .ok (.iconst 1, 1) := dk_4 (dk_at dksJ36_isEmpty_0 11 rfl rfl)
theorem dJ36_isEmpty_12 : decode cJ36_isEmpty 12 = .ok (.goto 4, 3) := dk_167 0 4 (dk_at dksJ36_isEmpty_0 12 rfl rfl)
theorem dJ36_isEmpty_15 : decode cJ36_isEmpty 15 = .ok (.iconst 0, 1) := dk_3 (dk_at dksJ36_isEmpty_0 15 rfl rfl)
theorem dJ36_isEmpty_16 : decode cJ36_isEmpty 16 = .ok (.ireturn, 1) := dk_172 (dk_at dksJ36_isEmpty_0 16 rfl rfl)
abbrev iJ36_isEmpty : xM := (yJ36_isEmpty, cJ36_isEmpty, 1, (some .boolean), [])
theorem mJ36_isEmpty : xOkM iJ36_isEmpty := ⟨by decide +kernel, by decide, q3466, q174⟩
abbrev cJ36_removeLast : ByteArray := prog_53_method_19_code
def yJ36_removeLast : MethodName := ⟨RJ36, "removeLast", "()Ljava/lang/Object;"⟩
def dkwJ36_removeLast_0 : List UInt8 := [42, 182, 0, 100, 76, 43, 199, 0, 11, 187, 0, 97, 89, 183, 0, 99, 191, 43, 176]
abbrev dktJ36_removeLast_0 : List UInt8 := dkwJ36_removeLast_0 ++ []
theorem dksJ36_removeLast_0 : cJ36_removeLast.data.toList.drop 0 = dktJ36_removeLast_0 := by decide +kernel
theorem dJ36_removeLast_0 : decode cJ36_removeLast 0 = .ok (.aload_n 0, 1) := dk_42 (dk_at dksJ36_removeLast_0 0 rfl rfl)
theorem dJ36_removeLast_1 : decode cJ36_removeLast 1 = .ok (.invokevirtual 100, 3) := dk_182 0 100 (dk_at dksJ36_removeLast_0 1 rfl rfl)
theorem dJ36_removeLast_4 : decode cJ36_removeLast 4 = .ok (.astore_n 1, 1) := dk_76 (dk_at dksJ36_removeLast_0 4 rfl rfl)
theorem dJ36_removeLast_5 : decode cJ36_removeLast 5 = .ok (.aload_n 1, 1) := dk_43 (dk_at dksJ36_removeLast_0 5 rfl rfl)
theorem dJ36_removeLast_6 : decode cJ36_removeLast 6 = .ok (.ifnonnull 11, 3) := dk_199 0 11 (dk_at dksJ36_removeLast_0 6 rfl rfl)
theorem dJ36_removeLast_9 : decode cJ36_removeLast 9 = .ok (.new 97, 3) := dk_187 0 97 (dk_at dksJ36_removeLast_0 9 rfl rfl)
theorem dJ36_removeLast_12 : decode cJ36_removeLast 12 = .ok (.dup, 1) := dk_89 (dk_at dksJ36_removeLast_0 12 rfl rfl)
theorem dJ36_removeLast_13 : decode cJ36_removeLast 13 = .ok (.invokespecial 99, 3) := dk_183 0 99 (dk_at dksJ36_removeLast_0 13 rfl rfl)
theorem dJ36_removeLast_16 : decode cJ36_removeLast 16 = .ok (.athrow, 1) := dk_191 (dk_at dksJ36_removeLast_0 16 rfl rfl)
theorem dJ36_removeLast_17 : decode cJ36_removeLast 17 = .ok (.aload_n 1, 1) := dk_43 (dk_at dksJ36_removeLast_0 17 rfl rfl)
theorem dJ36_removeLast_18 : decode cJ36_removeLast 18 = .ok (.areturn, 1) := dk_176 (dk_at dksJ36_removeLast_0 18 rfl rfl)
abbrev iJ36_removeLast : xM := (yJ36_removeLast, cJ36_removeLast, 2, (some (.object "java/lang/Object")), [])
theorem mJ36_removeLast : xOkM iJ36_removeLast := ⟨by decide +kernel, by decide, q3471, q174⟩
abbrev cJ36_pollLast : ByteArray := prog_53_method_21_code
def yJ36_pollLast : MethodName := ⟨RJ36, "pollLast", "()Ljava/lang/Object;"⟩
def dkwJ36_pollLast_1 : List UInt8 := [198, 0, 12, 43, 42, 28, 90, 181, 0, 20, 1, 83, 45, 176]
abbrev dktJ36_pollLast_1 : List UInt8 := dkwJ36_pollLast_1 ++ []
def dkwJ36_pollLast_0 : List UInt8 := [42, 180, 0, 3, 89, 76, 42, 180, 0, 20, 43, 190, 184, 0, 68, 89, 61, 184, 0, 103, 78, 45]
abbrev dktJ36_pollLast_0 : List UInt8 := dkwJ36_pollLast_0 ++ dktJ36_pollLast_1
theorem dksJ36_pollLast_0 : cJ36_pollLast.data.toList.drop 0 = dktJ36_pollLast_0 := by decide +kernel
theorem dksJ36_pollLast_1 : cJ36_pollLast.data.toList.drop 22 = dktJ36_pollLast_1 := dk_seg dksJ36_pollLast_0 22 rfl rfl
theorem dJ36_pollLast_0 : decode cJ36_pollLast 0 = .ok (.aload_n 0, 1) := dk_42 (dk_at dksJ36_pollLast_0 0 rfl rfl)
theorem dJ36_pollLast_1 : decode cJ36_pollLast 1 = .ok (.getfield 3, 3) := dk_180 0 3 (dk_at dksJ36_pollLast_0 1 rfl rfl)
theorem dJ36_pollLast_4 : decode cJ36_pollLast 4 = .ok (.dup, 1) := dk_89 (dk_at dksJ36_pollLast_0 4 rfl rfl)
theorem dJ36_pollLast_5 : decode cJ36_pollLast 5 = .ok (.astore_n 1, 1) := dk_76 (dk_at dksJ36_pollLast_0 5 rfl rfl)
theorem dJ36_pollLast_6 : decode cJ36_pollLast 6 = .ok (.aload_n 0, 1) := dk_42 (dk_at dksJ36_pollLast_0 6 rfl rfl)
theorem dJ36_pollLast_7 : decode cJ36_pollLast 7 = .ok (.getfield 20, 3) := dk_180 0 20 (dk_at dksJ36_pollLast_0 7 rfl rfl)
theorem dJ36_pollLast_10 : decode cJ36_pollLast 10 = .ok (.aload_n 1, 1) := dk_43 (dk_at dksJ36_pollLast_0 10 rfl rfl)
theorem dJ36_pollLast_11 : decode cJ36_pollLast 11 = .ok (.arraylength, 1) := dk_190 (dk_at dksJ36_pollLast_0 11 rfl rfl)
theorem dJ36_pollLast_12 : decode cJ36_pollLast 12 = .ok (.invokestatic 68, 3) := dk_184 0 68 (dk_at dksJ36_pollLast_0 12 rfl rfl)
theorem dJ36_pollLast_15 : decode cJ36_pollLast 15 = .ok (.dup, 1) := dk_89 (dk_at dksJ36_pollLast_0 15 rfl rfl)
theorem dJ36_pollLast_16 : decode cJ36_pollLast 16 = .ok (.istore_n 2, 1) := dk_61 (dk_at dksJ36_pollLast_0 16 rfl rfl)
theorem dJ36_pollLast_17 : decode cJ36_pollLast 17 = .ok (.invokestatic 103, 3) := dk_184 0 103 (dk_at dksJ36_pollLast_0 17 rfl rfl)
theorem dJ36_pollLast_20 : decode cJ36_pollLast 20 = .ok (.astore_n 3, 1) := dk_78 (dk_at dksJ36_pollLast_0 20 rfl rfl)
theorem dJ36_pollLast_21 : decode cJ36_pollLast 21 = .ok (.aload_n 3, 1) := dk_45 (dk_at dksJ36_pollLast_0 21 rfl rfl)
theorem dJ36_pollLast_22 : decode cJ36_pollLast 22 = .ok (.ifnull 12, 3) := dk_198 0 12 (dk_at dksJ36_pollLast_1 0 rfl rfl)
theorem dJ36_pollLast_25 : decode cJ36_pollLast 25 = .ok (.aload_n 1, 1) := dk_43 (dk_at dksJ36_pollLast_1 3 rfl rfl)
theorem dJ36_pollLast_26 : decode cJ36_pollLast 26 = .ok (.aload_n 0, 1) := dk_42 (dk_at dksJ36_pollLast_1 4 rfl rfl)
theorem dJ36_pollLast_27 : decode cJ36_pollLast 27 = .ok (.iload_n 2, 1) := dk_28 (dk_at dksJ36_pollLast_1 5 rfl rfl)
theorem dJ36_pollLast_28 : decode cJ36_pollLast 28 = .ok (.dup_x1, 1) := dk_90 (dk_at dksJ36_pollLast_1 6 rfl rfl)
theorem dJ36_pollLast_29 : decode cJ36_pollLast 29 = .ok (.putfield 20, 3) := dk_181 0 20 (dk_at dksJ36_pollLast_1 7 rfl rfl)
theorem dJ36_pollLast_32 : decode cJ36_pollLast 32 = .ok (.aconst_null, 1) := dk_1 (dk_at dksJ36_pollLast_1 10 rfl rfl)
theorem dJ36_pollLast_33 : decode cJ36_pollLast 33 = .ok (.aastore, 1) := dk_83 (dk_at dksJ36_pollLast_1 11 rfl rfl)
theorem dJ36_pollLast_34 : decode cJ36_pollLast 34 = .ok (.aload_n 3, 1) := dk_45 (dk_at dksJ36_pollLast_1 12 rfl rfl)
theorem dJ36_pollLast_35 : decode cJ36_pollLast 35 = .ok (.areturn, 1) := dk_176 (dk_at dksJ36_pollLast_1 13 rfl rfl)
abbrev iJ36_pollLast : xM := (yJ36_pollLast, cJ36_pollLast, 4, (some (.object "java/lang/Object")), [])
theorem mJ36_pollLast : xOkM iJ36_pollLast := ⟨by decide +kernel, by decide, q3475, q174⟩
abbrev cJ36_dec : ByteArray := prog_53_method_7_code
def yJ36_dec : MethodName := ⟨RJ36, "dec", "(II)I"⟩
def dkwJ36_dec_0 : List UInt8 := [132, 0, 255, 26, 156, 0, 7, 27, 4, 100, 59, 26, 172]
abbrev dktJ36_dec_0 : List UInt8 := dkwJ36_dec_0 ++ []
theorem dksJ36_dec_0 : cJ36_dec.data.toList.drop 0 = dktJ36_dec_0 := by decide +kernel
theorem dJ36_dec_0 : decode cJ36_dec 0 = .ok (.iinc 0 (-1), 3) := dk_132 0 255 (dk_at dksJ36_dec_0 0 rfl rfl)
theorem dJ36_dec_3 : decode cJ36_dec 3 = .ok (.iload_n 0, 1) := dk_26 (dk_at dksJ36_dec_0 3 rfl rfl)
theorem dJ36_dec_4 : decode cJ36_dec 4 = .ok (.ifCond .ge 7, 3) := dk_156 0 7 (dk_at dksJ36_dec_0 4 rfl rfl)
theorem dJ36_dec_7 : decode cJ36_dec 7 = .ok (.iload_n 1, 1) := dk_27 (dk_at dksJ36_dec_0 7 rfl rfl)
theorem dJ36_dec_8 : decode cJ36_dec 8 = .ok (.iconst 1, 1) := dk_4 (dk_at dksJ36_dec_0 8 rfl rfl)
theorem dJ36_dec_9 : decode cJ36_dec 9 = .ok (.isub, 1) := dk_100 (dk_at dksJ36_dec_0 9 rfl rfl)
theorem dJ36_dec_10 : decode cJ36_dec 10 = .ok (.istore_n 0, 1) := dk_59 (dk_at dksJ36_dec_0 10 rfl rfl)
theorem dJ36_dec_11 : decode cJ36_dec 11 = .ok (.iload_n 0, 1) := dk_26 (dk_at dksJ36_dec_0 11 rfl rfl)
theorem dJ36_dec_12 : decode cJ36_dec 12 = .ok (.ireturn, 1) := dk_172 (dk_at dksJ36_dec_0 12 rfl rfl)
abbrev iJ36_dec : xM := (yJ36_dec, cJ36_dec, 2, (some .int), [])
theorem mJ36_dec : xOkM iJ36_dec := ⟨by decide +kernel, by decide, q3478, q174⟩
abbrev cJ13_init : ByteArray := prog_17_method_2_code
def yJ13_init : MethodName := ⟨RJ13, "<init>", "(I)V"⟩
def dkwJ13_init_1 : List UInt8 := [167, 0, 16, 42, 27, 184, 0, 26, 181, 0, 15, 42, 4, 181, 0, 22, 177]
abbrev dktJ13_init_1 : List UInt8 := dkwJ13_init_1 ++ []
def dkwJ13_init_0 : List UInt8 := [42, 183, 0, 3, 178, 0, 18, 153, 0, 18, 42, 27, 188, 8, 181, 0, 15, 42, 3, 181, 0, 22]
abbrev dktJ13_init_0 : List UInt8 := dkwJ13_init_0 ++ dktJ13_init_1
theorem dksJ13_init_0 : cJ13_init.data.toList.drop 0 = dktJ13_init_0 := by decide +kernel
theorem dksJ13_init_1 : cJ13_init.data.toList.drop 22 = dktJ13_init_1 := dk_seg dksJ13_init_0 22 rfl rfl
theorem dJ13_init_0 : decode cJ13_init 0 = .ok (.aload_n 0, 1) := dk_42 (dk_at dksJ13_init_0 0 rfl rfl)
theorem dJ13_init_1 : decode cJ13_init 1 = .ok (.invokespecial 3, 3) := dk_183 0 3 (dk_at dksJ13_init_0 1 rfl rfl)
theorem dJ13_init_4 : decode cJ13_init 4 = .ok (.getstatic 18, 3) := dk_178 0 18 (dk_at dksJ13_init_0 4 rfl rfl)
theorem dJ13_init_7 : decode cJ13_init 7 = .ok (.ifCond .eq 18, 3) := dk_153 0 18 (dk_at dksJ13_init_0 7 rfl rfl)
theorem dJ13_init_10 : decode cJ13_init 10 = .ok (.aload_n 0, 1) := dk_42 (dk_at dksJ13_init_0 10 rfl rfl)
theorem dJ13_init_11 : decode cJ13_init 11 = .ok (.iload_n 1, 1) := dk_27 (dk_at dksJ13_init_0 11 rfl rfl)
theorem dJ13_init_12 : decode cJ13_init 12 = .ok (.newarray .byte, 2) := dk_188_8 (dk_at dksJ13_init_0 12 rfl rfl)
theorem dJ13_init_14 : decode cJ13_init 14 = .ok (.putfield 15, 3) := dk_181 0 15 (dk_at dksJ13_init_0 14 rfl rfl)
theorem dJ13_init_17 : decode cJ13_init 17 = .ok (.aload_n 0, 1) := dk_42 (dk_at dksJ13_init_0 17 rfl rfl)
theorem dJ13_init_18 : decode cJ13_init 18 = .ok (.iconst 0, 1) := dk_3 (dk_at dksJ13_init_0 18 rfl rfl)
theorem dJ13_init_19 : decode cJ13_init 19 = .ok (.putfield 22, 3) := dk_181 0 22 (dk_at dksJ13_init_0 19 rfl rfl)
theorem dJ13_init_22 : decode cJ13_init 22 = .ok (.goto 16, 3) := dk_167 0 16 (dk_at dksJ13_init_1 0 rfl rfl)
theorem dJ13_init_25 : decode cJ13_init 25 = .ok (.aload_n 0, 1) := dk_42 (dk_at dksJ13_init_1 3 rfl rfl)
theorem dJ13_init_26 : decode cJ13_init 26 = .ok (.iload_n 1, 1) := dk_27 (dk_at dksJ13_init_1 4 rfl rfl)
theorem dJ13_init_27 : decode cJ13_init 27 = .ok (.invokestatic 26, 3) := dk_184 0 26 (dk_at dksJ13_init_1 5 rfl rfl)
theorem dJ13_init_30 : decode cJ13_init 30 = .ok (.putfield 15, 3) := dk_181 0 15 (dk_at dksJ13_init_1 8 rfl rfl)
theorem dJ13_init_33 : decode cJ13_init 33 = .ok (.aload_n 0, 1) := dk_42 (dk_at dksJ13_init_1 11 rfl rfl)
theorem dJ13_init_34 : decode cJ13_init 34 = .ok (.iconst 1, 1) := dk_4 (dk_at dksJ13_init_1 12 rfl rfl)
theorem dJ13_init_35 : decode cJ13_init 35 = .ok (.putfield 22, 3) := dk_181 0 22 (dk_at dksJ13_init_1 13 rfl rfl)
theorem dJ13_init_38 : decode cJ13_init 38 = .ok (.return_, 1) := dk_177 (dk_at dksJ13_init_1 16 rfl rfl)
abbrev iJ13_init : xM := (yJ13_init, cJ13_init, 2, none, [])
theorem mJ13_init : xOkM iJ13_init := ⟨by decide +kernel, by decide, q382, q146⟩
abbrev cJ13_append : ByteArray := prog_17_method_22_code
def yJ13_append : MethodName := ⟨RJ13, "append", "(Ljava/lang/String;)Ljava/lang/AbstractStringBuilder;"⟩
def dkwJ13_append_1 : List UInt8 := [42, 42, 180, 0, 79, 43, 182, 0, 208, 42, 89, 180, 0, 79, 28, 96, 181, 0, 79, 42, 176]
abbrev dktJ13_append_1 : List UInt8 := dkwJ13_append_1 ++ []
def dkwJ13_append_0 : List UInt8 := [43, 199, 0, 8, 42, 182, 0, 204, 176, 43, 182, 0, 32, 61, 42, 42, 180, 0, 79, 28, 96, 182, 0, 100]
abbrev dktJ13_append_0 : List UInt8 := dkwJ13_append_0 ++ dktJ13_append_1
theorem dksJ13_append_0 : cJ13_append.data.toList.drop 0 = dktJ13_append_0 := by decide +kernel
theorem dksJ13_append_1 : cJ13_append.data.toList.drop 24 = dktJ13_append_1 := dk_seg dksJ13_append_0 24 rfl rfl
theorem dJ13_append_0 : decode cJ13_append 0 = .ok (.aload_n 1, 1) := dk_43 (dk_at dksJ13_append_0 0 rfl rfl)
theorem dJ13_append_1 : decode cJ13_append 1 = .ok (.ifnonnull 8, 3) := dk_199 0 8 (dk_at dksJ13_append_0 1 rfl rfl)
theorem dJ13_append_4 : decode cJ13_append 4 = .ok (.aload_n 0, 1) := dk_42 (dk_at dksJ13_append_0 4 rfl rfl)
theorem dJ13_append_5 : decode cJ13_append 5 = .ok (.invokevirtual 204, 3) := dk_182 0 204 (dk_at dksJ13_append_0 5 rfl rfl)
theorem dJ13_append_8 : decode cJ13_append 8 = .ok (.areturn, 1) := dk_176 (dk_at dksJ13_append_0 8 rfl rfl)
theorem dJ13_append_9 : decode cJ13_append 9 = .ok (.aload_n 1, 1) := dk_43 (dk_at dksJ13_append_0 9 rfl rfl)
theorem dJ13_append_10 : decode cJ13_append 10 = .ok (.invokevirtual 32, 3) := dk_182 0 32 (dk_at dksJ13_append_0 10 rfl rfl)
theorem dJ13_append_13 : decode cJ13_append 13 = .ok (.istore_n 2, 1) := dk_61 (dk_at dksJ13_append_0 13 rfl rfl)
theorem dJ13_append_14 : decode cJ13_append 14 = .ok (.aload_n 0, 1) := dk_42 (dk_at dksJ13_append_0 14 rfl rfl)
theorem dJ13_append_15 : decode cJ13_append 15 = .ok (.aload_n 0, 1) := dk_42 (dk_at dksJ13_append_0 15 rfl rfl)
theorem dJ13_append_16 : decode cJ13_append 16 = .ok (.getfield 79, 3) := dk_180 0 79 (dk_at dksJ13_append_0 16 rfl rfl)
theorem dJ13_append_19 : decode cJ13_append 19 = .ok (.iload_n 2, 1) := dk_28 (dk_at dksJ13_append_0 19 rfl rfl)
theorem dJ13_append_20 : decode cJ13_append 20 = .ok (.iadd, 1) := dk_96 (dk_at dksJ13_append_0 20 rfl rfl)
theorem dJ13_append_21 : decode cJ13_append 21 = .ok (.invokevirtual 100, 3) := dk_182 0 100 (dk_at dksJ13_append_0 21 rfl rfl)
theorem dJ13_append_24 : decode cJ13_append 24 = .ok (.aload_n 0, 1) := dk_42 (dk_at dksJ13_append_1 0 rfl rfl)
theorem dJ13_append_25 : decode cJ13_append 25 = .ok (.aload_n 0, 1) := dk_42 (dk_at dksJ13_append_1 1 rfl rfl)
theorem dJ13_append_26 : decode cJ13_append 26 = .ok (.getfield 79, 3) := dk_180 0 79 (dk_at dksJ13_append_1 2 rfl rfl)
theorem dJ13_append_29 : decode cJ13_append 29 = .ok (.aload_n 1, 1) := dk_43 (dk_at dksJ13_append_1 5 rfl rfl)
theorem dJ13_append_30 : decode cJ13_append 30 = .ok (.invokevirtual 208, 3) := dk_182 0 208 (dk_at dksJ13_append_1 6 rfl rfl)
theorem dJ13_append_33 : decode cJ13_append 33 = .ok (.aload_n 0, 1) := dk_42 (dk_at dksJ13_append_1 9 rfl rfl)
theorem dJ13_append_34 : decode cJ13_append 34 = .ok (.dup, 1) := dk_89 (dk_at dksJ13_append_1 10 rfl rfl)
theorem dJ13_append_35 : decode cJ13_append 35 = .ok (.getfield 79, 3) := dk_180 0 79 (dk_at dksJ13_append_1 11 rfl rfl)
theorem dJ13_append_38 : decode cJ13_append 38 = .ok (.iload_n 2, 1) := dk_28 (dk_at dksJ13_append_1 14 rfl rfl)
theorem dJ13_append_39 : decode cJ13_append 39 = .ok (.iadd, 1) := dk_96 (dk_at dksJ13_append_1 15 rfl rfl)
theorem dJ13_append_40 : decode cJ13_append 40 = .ok (.putfield 79, 3) := dk_181 0 79 (dk_at dksJ13_append_1 16 rfl rfl)
theorem dJ13_append_43 : decode cJ13_append 43 = .ok (.aload_n 0, 1) := dk_42 (dk_at dksJ13_append_1 19 rfl rfl)
theorem dJ13_append_44 : decode cJ13_append 44 = .ok (.areturn, 1) := dk_176 (dk_at dksJ13_append_1 20 rfl rfl)
abbrev iJ13_append : xM := (yJ13_append, cJ13_append, 3, (some (.object "java/lang/AbstractStringBuilder")), [])
theorem mJ13_append : xOkM iJ13_append := ⟨by decide +kernel, by decide, q415, q146⟩
abbrev cJ13_appendNull : ByteArray := prog_17_method_26_code
def yJ13_appendNull : MethodName := ⟨RJ13, "appendNull", "()Ljava/lang/AbstractStringBuilder;"⟩
def dkwJ13_appendNull_3 : List UInt8 := [184, 0, 226, 60, 42, 27, 181, 0, 79, 42, 176]
abbrev dktJ13_appendNull_3 : List UInt8 := dkwJ13_appendNull_3 ++ []
def dkwJ13_appendNull_2 : List UInt8 := [16, 108, 84, 44, 27, 132, 1, 1, 16, 108, 84, 167, 0, 17, 44, 27, 16, 110, 16, 117, 16, 108, 16, 108]
abbrev dktJ13_appendNull_2 : List UInt8 := dkwJ13_appendNull_2 ++ dktJ13_appendNull_3
def dkwJ13_appendNull_1 : List UInt8 := [153, 0, 38, 44, 27, 132, 1, 1, 16, 110, 84, 44, 27, 132, 1, 1, 16, 117, 84, 44, 27, 132, 1, 1]
abbrev dktJ13_appendNull_1 : List UInt8 := dkwJ13_appendNull_1 ++ dktJ13_appendNull_2
def dkwJ13_appendNull_0 : List UInt8 := [42, 42, 180, 0, 79, 7, 96, 182, 0, 100, 42, 180, 0, 79, 60, 42, 180, 0, 15, 77, 42, 182, 0, 83]
abbrev dktJ13_appendNull_0 : List UInt8 := dkwJ13_appendNull_0 ++ dktJ13_appendNull_1
theorem dksJ13_appendNull_0 : cJ13_appendNull.data.toList.drop 0 = dktJ13_appendNull_0 := by decide +kernel
theorem dksJ13_appendNull_1 : cJ13_appendNull.data.toList.drop 24 = dktJ13_appendNull_1 := dk_seg dksJ13_appendNull_0 24 rfl rfl
theorem dksJ13_appendNull_2 : cJ13_appendNull.data.toList.drop 48 = dktJ13_appendNull_2 := dk_seg dksJ13_appendNull_1 24 rfl rfl
theorem dksJ13_appendNull_3 : cJ13_appendNull.data.toList.drop 72 = dktJ13_appendNull_3 := dk_seg dksJ13_appendNull_2 24 rfl rfl
theorem dJ13_appendNull_0 : decode cJ13_appendNull 0 = .ok (.aload_n 0, 1) := dk_42 (dk_at dksJ13_appendNull_0 0 rfl rfl)
theorem dJ13_appendNull_1 : decode cJ13_appendNull 1 = .ok (.aload_n 0, 1) := dk_42 (dk_at dksJ13_appendNull_0 1 rfl rfl)
theorem dJ13_appendNull_2 : decode cJ13_appendNull 2 = .ok (.getfield 79, 3) := dk_180 0 79 (dk_at dksJ13_appendNull_0 2 rfl rfl)
theorem dJ13_appendNull_5 : decode cJ13_appendNull 5 = .ok (.iconst 4, 1) := dk_7 (dk_at dksJ13_appendNull_0 5 rfl rfl)
theorem dJ13_appendNull_6 : decode cJ13_appendNull 6 = .ok (.iadd, 1) := dk_96 (dk_at dksJ13_appendNull_0 6 rfl rfl)
theorem dJ13_appendNull_7 : decode cJ13_appendNull 7 = .ok (.invokevirtual 100, 3) := dk_182 0 100 (dk_at dksJ13_appendNull_0 7 rfl rfl)
theorem dJ13_appendNull_10 : decode cJ13_appendNull 10 = .ok (.aload_n 0, 1) := dk_42 (dk_at dksJ13_appendNull_0 10 rfl rfl)
theorem dJ13_appendNull_11 : decode cJ13_appendNull 11 = .ok (.getfield 79, 3) := dk_180 0 79 (dk_at dksJ13_appendNull_0 11 rfl rfl)
theorem dJ13_appendNull_14 : decode cJ13_appendNull 14 = .ok (.istore_n 1, 1) := dk_60 (dk_at dksJ13_appendNull_0 14 rfl rfl)
theorem dJ13_appendNull_15 : decode cJ13_appendNull 15 = .ok (.aload_n 0, 1) := dk_42 (dk_at dksJ13_appendNull_0 15 rfl rfl)
theorem dJ13_appendNull_16 : decode cJ13_appendNull 16 = .ok (.getfield 15, 3) := dk_180 0 15 (dk_at dksJ13_appendNull_0 16 rfl rfl)
theorem dJ13_appendNull_19 : decode cJ13_appendNull 19 = .ok (.astore_n 2, 1) := dk_77 (dk_at dksJ13_appendNull_0 19 rfl rfl)
theorem dJ13_appendNull_20 : decode cJ13_appendNull 20 = .ok (.aload_n 0, 1) := dk_42 (dk_at dksJ13_appendNull_0 20 rfl rfl)
theorem dJ13_appendNull_21 : decode cJ13_appendNull 21 = .ok (.invokevirtual 83, 3) := dk_182 0 83 (dk_at dksJ13_appendNull_0 21 rfl rfl)
theorem dJ13_appendNull_24 : decode cJ13_appendNull 24 = .ok (.ifCond .eq 38, 3) := dk_153 0 38 (dk_at dksJ13_appendNull_1 0 rfl rfl)
theorem dJ13_appendNull_27 : decode cJ13_appendNull 27 = .ok (.aload_n 2, 1) := dk_44 (dk_at dksJ13_appendNull_1 3 rfl rfl)
theorem dJ13_appendNull_28 : decode cJ13_appendNull 28 = .ok (.iload_n 1, 1) := dk_27 (dk_at dksJ13_appendNull_1 4 rfl rfl)
theorem dJ13_appendNull_29 : decode cJ13_appendNull 29 = .ok (.iinc 1 1, 3) := dk_132 1 1 (dk_at dksJ13_appendNull_1 5 rfl rfl)
theorem dJ13_appendNull_32 : decode cJ13_appendNull 32 = .ok (.bipush 110, 2) := dk_16 110 (dk_at dksJ13_appendNull_1 8 rfl rfl)
theorem dJ13_appendNull_34 : decode cJ13_appendNull 34 = .ok (.bastore, 1) := dk_84 (dk_at dksJ13_appendNull_1 10 rfl rfl)
theorem dJ13_appendNull_35 : decode cJ13_appendNull 35 = .ok (.aload_n 2, 1) := dk_44 (dk_at dksJ13_appendNull_1 11 rfl rfl)
theorem dJ13_appendNull_36 : decode cJ13_appendNull 36 = .ok (.iload_n 1, 1) := dk_27 (dk_at dksJ13_appendNull_1 12 rfl rfl)
theorem dJ13_appendNull_37 : decode cJ13_appendNull 37 = .ok (.iinc 1 1, 3) := dk_132 1 1 (dk_at dksJ13_appendNull_1 13 rfl rfl)
theorem dJ13_appendNull_40 : decode cJ13_appendNull 40 = .ok (.bipush 117, 2) := dk_16 117 (dk_at dksJ13_appendNull_1 16 rfl rfl)
theorem dJ13_appendNull_42 : decode cJ13_appendNull 42 = .ok (.bastore, 1) := dk_84 (dk_at dksJ13_appendNull_1 18 rfl rfl)
theorem dJ13_appendNull_43 : decode cJ13_appendNull 43 = .ok (.aload_n 2, 1) := dk_44 (dk_at dksJ13_appendNull_1 19 rfl rfl)
theorem dJ13_appendNull_44 : decode cJ13_appendNull 44 = .ok (.iload_n 1, 1) := dk_27 (dk_at dksJ13_appendNull_1 20 rfl rfl)
theorem dJ13_appendNull_45 : decode cJ13_appendNull 45 = .ok (.iinc 1 1, 3) := dk_132 1 1 (dk_at dksJ13_appendNull_1 21 rfl rfl)
theorem dJ13_appendNull_48 : decode cJ13_appendNull 48 = .ok (.bipush 108, 2) := dk_16 108 (dk_at dksJ13_appendNull_2 0 rfl rfl)
theorem dJ13_appendNull_50 : decode cJ13_appendNull 50 = .ok (.bastore, 1) := dk_84 (dk_at dksJ13_appendNull_2 2 rfl rfl)
theorem dJ13_appendNull_51 : decode cJ13_appendNull 51 = .ok (.aload_n 2, 1) := dk_44 (dk_at dksJ13_appendNull_2 3 rfl rfl)
theorem dJ13_appendNull_52 : decode cJ13_appendNull 52 = .ok (.iload_n 1, 1) := dk_27 (dk_at dksJ13_appendNull_2 4 rfl rfl)
theorem dJ13_appendNull_53 : decode cJ13_appendNull 53 = .ok (.iinc 1 1, 3) := dk_132 1 1 (dk_at dksJ13_appendNull_2 5 rfl rfl)
theorem dJ13_appendNull_56 : decode cJ13_appendNull 56 = .ok (.bipush 108, 2) := dk_16 108 (dk_at dksJ13_appendNull_2 8 rfl rfl)
theorem dJ13_appendNull_58 : decode cJ13_appendNull 58 = .ok (.bastore, 1) := dk_84 (dk_at dksJ13_appendNull_2 10 rfl rfl)
theorem dJ13_appendNull_59 : decode cJ13_appendNull 59 = .ok (.goto 17, 3) := dk_167 0 17 (dk_at dksJ13_appendNull_2 11 rfl rfl)
theorem dJ13_appendNull_62 : decode cJ13_appendNull 62 = .ok (.aload_n 2, 1) := dk_44 (dk_at dksJ13_appendNull_2 14 rfl rfl)
theorem dJ13_appendNull_63 : decode cJ13_appendNull 63 = .ok (.iload_n 1, 1) := dk_27 (dk_at dksJ13_appendNull_2 15 rfl rfl)
theorem dJ13_appendNull_64 : decode cJ13_appendNull 64 = .ok (.bipush 110, 2) := dk_16 110 (dk_at dksJ13_appendNull_2 16 rfl rfl)
theorem dJ13_appendNull_66 : decode cJ13_appendNull 66 = .ok (.bipush 117, 2) := dk_16 117 (dk_at dksJ13_appendNull_2 18 rfl rfl)
theorem dJ13_appendNull_68 : decode cJ13_appendNull 68 = .ok (.bipush 108, 2) := dk_16 108 (dk_at dksJ13_appendNull_2 20 rfl rfl)
theorem dJ13_appendNull_70 : decode cJ13_appendNull 70 = .ok (.bipush 108, 2) := dk_16 108 (dk_at dksJ13_appendNull_2 22 rfl rfl)
theorem dJ13_appendNull_72 : decode cJ13_appendNull 72 = .ok (.invokestatic 226, 3) := dk_184 0 226 (dk_at dksJ13_appendNull_3 0 rfl rfl)
theorem dJ13_appendNull_75 : decode cJ13_appendNull 75 = .ok (.istore_n 1, 1) := dk_60 (dk_at dksJ13_appendNull_3 3 rfl rfl)
theorem dJ13_appendNull_76 : decode cJ13_appendNull 76 = .ok (.aload_n 0, 1) := dk_42 (dk_at dksJ13_appendNull_3 4 rfl rfl)
theorem dJ13_appendNull_77 : decode cJ13_appendNull 77 = .ok (.iload_n 1, 1) := dk_27 (dk_at dksJ13_appendNull_3 5 rfl rfl)
theorem dJ13_appendNull_78 : decode cJ13_appendNull 78 = .ok (.putfield 79, 3) := dk_181 0 79 (dk_at dksJ13_appendNull_3 6 rfl rfl)
theorem dJ13_appendNull_81 : decode cJ13_appendNull 81 = .ok (.aload_n 0, 1) := dk_42 (dk_at dksJ13_appendNull_3 9 rfl rfl)
theorem dJ13_appendNull_82 : decode cJ13_appendNull 82 = .ok (.areturn, 1) := dk_176 (dk_at dksJ13_appendNull_3 10 rfl rfl)
abbrev iJ13_appendNull : xM := (yJ13_appendNull, cJ13_appendNull, 3, (some (.object "java/lang/AbstractStringBuilder")), [])
theorem mJ13_appendNull : xOkM iJ13_appendNull := ⟨by decide +kernel, by decide, q419, q146⟩
abbrev cJ13_ensureCapacityInternal : ByteArray := prog_17_method_9_code
def yJ13_ensureCapacityInternal : MethodName := ⟨RJ13, "ensureCapacityInternal", "(I)V"⟩
def dkwJ13_ensureCapacityInternal_1 : List UInt8 := [182, 0, 104, 42, 180, 0, 22, 120, 184, 0, 108, 181, 0, 15, 177]
abbrev dktJ13_ensureCapacityInternal_1 : List UInt8 := dkwJ13_ensureCapacityInternal_1 ++ []
def dkwJ13_ensureCapacityInternal_0 : List UInt8 := [42, 180, 0, 15, 190, 42, 180, 0, 22, 122, 61, 27, 28, 100, 158, 0, 24, 42, 42, 180, 0, 15, 42, 27]
abbrev dktJ13_ensureCapacityInternal_0 : List UInt8 := dkwJ13_ensureCapacityInternal_0 ++ dktJ13_ensureCapacityInternal_1
theorem dksJ13_ensureCapacityInternal_0 : cJ13_ensureCapacityInternal.data.toList.drop 0 = dktJ13_ensureCapacityInternal_0 := by decide +kernel
theorem dksJ13_ensureCapacityInternal_1 : cJ13_ensureCapacityInternal.data.toList.drop 24 = dktJ13_ensureCapacityInternal_1 := dk_seg dksJ13_ensureCapacityInternal_0 24 rfl rfl
theorem dJ13_ensureCapacityInternal_0 : decode cJ13_ensureCapacityInternal 0 = .ok (.aload_n 0, 1) := dk_42 (dk_at dksJ13_ensureCapacityInternal_0 0 rfl rfl)
theorem dJ13_ensureCapacityInternal_1 : decode cJ13_ensureCapacityInternal 1 = .ok (.getfield 15, 3) := dk_180 0 15 (dk_at dksJ13_ensureCapacityInternal_0 1 rfl rfl)
theorem dJ13_ensureCapacityInternal_4 : decode cJ13_ensureCapacityInternal 4 = .ok (.arraylength, 1) := dk_190 (dk_at dksJ13_ensureCapacityInternal_0 4 rfl rfl)
theorem dJ13_ensureCapacityInternal_5 : decode cJ13_ensureCapacityInternal 5 = .ok (.aload_n 0, 1) := dk_42 (dk_at dksJ13_ensureCapacityInternal_0 5 rfl rfl)
theorem dJ13_ensureCapacityInternal_6 : decode cJ13_ensureCapacityInternal 6 = .ok (.getfield 22, 3) := dk_180 0 22 (dk_at dksJ13_ensureCapacityInternal_0 6 rfl rfl)
theorem dJ13_ensureCapacityInternal_9 : decode cJ13_ensureCapacityInternal 9 = .ok (.ishr, 1) := dk_122 (dk_at dksJ13_ensureCapacityInternal_0 9 rfl rfl)
theorem dJ13_ensureCapacityInternal_10 : decode cJ13_ensureCapacityInternal 10 = .ok (.istore_n 2, 1) := dk_61 (dk_at dksJ13_ensureCapacityInternal_0 10 rfl rfl)
theorem dJ13_ensureCapacityInternal_11 : decode cJ13_ensureCapacityInternal 11 = .ok (.iload_n 1, 1) := dk_27 (dk_at dksJ13_ensureCapacityInternal_0 11 rfl rfl)
theorem dJ13_ensureCapacityInternal_12 : decode cJ13_ensureCapacityInternal 12 = .ok (.iload_n 2, 1) := dk_28 (dk_at dksJ13_ensureCapacityInternal_0 12 rfl rfl)
theorem dJ13_ensureCapacityInternal_13 : decode cJ13_ensureCapacityInternal 13 = .ok (.isub, 1) := dk_100 (dk_at dksJ13_ensureCapacityInternal_0 13 rfl rfl)
theorem dJ13_ensureCapacityInternal_14 : decode cJ13_ensureCapacityInternal 14 = .ok (.ifCond .le 24, 3) := dk_158 0 24 (dk_at dksJ13_ensureCapacityInternal_0 14 rfl rfl)
theorem dJ13_ensureCapacityInternal_17 : decode cJ13_ensureCapacityInternal 17 = .ok (.aload_n 0, 1) := dk_42 (dk_at dksJ13_ensureCapacityInternal_0 17 rfl rfl)
theorem dJ13_ensureCapacityInternal_18 : decode cJ13_ensureCapacityInternal 18 = .ok (.aload_n 0, 1) := dk_42 (dk_at dksJ13_ensureCapacityInternal_0 18 rfl rfl)
theorem dJ13_ensureCapacityInternal_19 : decode cJ13_ensureCapacityInternal 19 = .ok (.getfield 15, 3) := dk_180 0 15 (dk_at dksJ13_ensureCapacityInternal_0 19 rfl rfl)
theorem dJ13_ensureCapacityInternal_22 : decode cJ13_ensureCapacityInternal 22 = .ok (.aload_n 0, 1) := dk_42 (dk_at dksJ13_ensureCapacityInternal_0 22 rfl rfl)
theorem dJ13_ensureCapacityInternal_23 : decode cJ13_ensureCapacityInternal 23 = .ok (.iload_n 1, 1) := dk_27 (dk_at dksJ13_ensureCapacityInternal_0 23 rfl rfl)
theorem dJ13_ensureCapacityInternal_24 : decode cJ13_ensureCapacityInternal 24 = .ok (.invokevirtual 104, 3) := dk_182 0 104 (dk_at dksJ13_ensureCapacityInternal_1 0 rfl rfl)
theorem dJ13_ensureCapacityInternal_27 : decode cJ13_ensureCapacityInternal 27 = .ok (.aload_n 0, 1) := dk_42 (dk_at dksJ13_ensureCapacityInternal_1 3 rfl rfl)
theorem dJ13_ensureCapacityInternal_28 : decode cJ13_ensureCapacityInternal 28 = .ok (.getfield 22, 3) := dk_180 0 22 (dk_at dksJ13_ensureCapacityInternal_1 4 rfl rfl)
theorem dJ13_ensureCapacityInternal_31 : decode cJ13_ensureCapacityInternal 31 = .ok (.ishl, 1) := dk_120 (dk_at dksJ13_ensureCapacityInternal_1 7 rfl rfl)
theorem dJ13_ensureCapacityInternal_32 : decode cJ13_ensureCapacityInternal 32 = .ok (.invokestatic 108, 3) := dk_184 0 108 (dk_at dksJ13_ensureCapacityInternal_1 8 rfl rfl)
theorem dJ13_ensureCapacityInternal_35 : decode cJ13_ensureCapacityInternal 35 = .ok (.putfield 15, 3) := dk_181 0 15 (dk_at dksJ13_ensureCapacityInternal_1 11 rfl rfl)
theorem dJ13_ensureCapacityInternal_38 : decode cJ13_ensureCapacityInternal 38 = .ok (.return_, 1) := dk_177 (dk_at dksJ13_ensureCapacityInternal_1 14 rfl rfl)
abbrev iJ13_ensureCapacityInternal : xM := (yJ13_ensureCapacityInternal, cJ13_ensureCapacityInternal, 3, none, [])
theorem mJ13_ensureCapacityInternal : xOkM iJ13_ensureCapacityInternal := ⟨by decide +kernel, by decide, q423, q146⟩
abbrev cJ13_newCapacity : ByteArray := prog_17_method_10_code
def yJ13_newCapacity : MethodName := ⟨RJ13, "newCapacity", "(I)I"⟩
def dkwJ13_newCapacity_2 : List UInt8 := [183, 0, 124, 191, 21, 5, 42, 180, 0, 22, 122, 172]
abbrev dktJ13_newCapacity_2 : List UInt8 := dkwJ13_newCapacity_2 ++ []
def dkwJ13_newCapacity_1 : List UInt8 := [180, 0, 22, 120, 96, 184, 0, 114, 54, 5, 21, 5, 18, 39, 160, 0, 13, 187, 0, 120, 89, 18, 122]
abbrev dktJ13_newCapacity_1 : List UInt8 := dkwJ13_newCapacity_1 ++ dktJ13_newCapacity_2
def dkwJ13_newCapacity_0 : List UInt8 := [42, 180, 0, 15, 190, 61, 27, 42, 180, 0, 22, 120, 62, 29, 28, 100, 54, 4, 28, 21, 4, 28, 5, 42]
abbrev dktJ13_newCapacity_0 : List UInt8 := dkwJ13_newCapacity_0 ++ dktJ13_newCapacity_1
theorem dksJ13_newCapacity_0 : cJ13_newCapacity.data.toList.drop 0 = dktJ13_newCapacity_0 := by decide +kernel
theorem dksJ13_newCapacity_1 : cJ13_newCapacity.data.toList.drop 24 = dktJ13_newCapacity_1 := dk_seg dksJ13_newCapacity_0 24 rfl rfl
theorem dksJ13_newCapacity_2 : cJ13_newCapacity.data.toList.drop 47 = dktJ13_newCapacity_2 := dk_seg dksJ13_newCapacity_1 23 rfl rfl
theorem dJ13_newCapacity_0 : decode cJ13_newCapacity 0 = .ok (.aload_n 0, 1) := dk_42 (dk_at dksJ13_newCapacity_0 0 rfl rfl)
theorem dJ13_newCapacity_1 : decode cJ13_newCapacity 1 = .ok (.getfield 15, 3) := dk_180 0 15 (dk_at dksJ13_newCapacity_0 1 rfl rfl)
theorem dJ13_newCapacity_4 : decode cJ13_newCapacity 4 = .ok (.arraylength, 1) := dk_190 (dk_at dksJ13_newCapacity_0 4 rfl rfl)
theorem dJ13_newCapacity_5 : decode cJ13_newCapacity 5 = .ok (.istore_n 2, 1) := dk_61 (dk_at dksJ13_newCapacity_0 5 rfl rfl)
theorem dJ13_newCapacity_6 : decode cJ13_newCapacity 6 = .ok (.iload_n 1, 1) := dk_27 (dk_at dksJ13_newCapacity_0 6 rfl rfl)
theorem dJ13_newCapacity_7 : decode cJ13_newCapacity 7 = .ok (.aload_n 0, 1) := dk_42 (dk_at dksJ13_newCapacity_0 7 rfl rfl)
theorem dJ13_newCapacity_8 : decode cJ13_newCapacity 8 = .ok (.getfield 22, 3) := dk_180 0 22 (dk_at dksJ13_newCapacity_0 8 rfl rfl)
theorem dJ13_newCapacity_11 : decode cJ13_newCapacity 11 = .ok (.ishl, 1) := dk_120 (dk_at dksJ13_newCapacity_0 11 rfl rfl)
theorem dJ13_newCapacity_12 : decode cJ13_newCapacity 12 = .ok (.istore_n 3, 1) := dk_62 (dk_at dksJ13_newCapacity_0 12 rfl rfl)
theorem dJ13_newCapacity_13 : decode cJ13_newCapacity 13 = .ok (.iload_n 3, 1) := dk_29 (dk_at dksJ13_newCapacity_0 13 rfl rfl)
theorem dJ13_newCapacity_14 : decode cJ13_newCapacity 14 = .ok (.iload_n 2, 1) := dk_28 (dk_at dksJ13_newCapacity_0 14 rfl rfl)
theorem dJ13_newCapacity_15 : decode cJ13_newCapacity 15 = .ok (.isub, 1) := dk_100 (dk_at dksJ13_newCapacity_0 15 rfl rfl)
theorem dJ13_newCapacity_16 : decode cJ13_newCapacity 16 = .ok (.istore 4, 2) := dk_54 4 (dk_at dksJ13_newCapacity_0 16 rfl rfl)
theorem dJ13_newCapacity_18 : decode cJ13_newCapacity 18 = .ok (.iload_n 2, 1) := dk_28 (dk_at dksJ13_newCapacity_0 18 rfl rfl)
theorem dJ13_newCapacity_19 : decode cJ13_newCapacity 19 = .ok (.iload 4, 2) := dk_21 4 (dk_at dksJ13_newCapacity_0 19 rfl rfl)
theorem dJ13_newCapacity_21 : decode cJ13_newCapacity 21 = .ok (.iload_n 2, 1) := dk_28 (dk_at dksJ13_newCapacity_0 21 rfl rfl)
theorem dJ13_newCapacity_22 : decode cJ13_newCapacity 22 = .ok (.iconst 2, 1) := dk_5 (dk_at dksJ13_newCapacity_0 22 rfl rfl)
theorem dJ13_newCapacity_23 : decode cJ13_newCapacity 23 = .ok (.aload_n 0, 1) := dk_42 (dk_at dksJ13_newCapacity_0 23 rfl rfl)
theorem dJ13_newCapacity_24 : decode cJ13_newCapacity 24 = .ok (.getfield 22, 3) := dk_180 0 22 (dk_at dksJ13_newCapacity_1 0 rfl rfl)
theorem dJ13_newCapacity_27 : decode cJ13_newCapacity 27 = .ok (.ishl, 1) := dk_120 (dk_at dksJ13_newCapacity_1 3 rfl rfl)
theorem dJ13_newCapacity_28 : decode cJ13_newCapacity 28 = .ok (.iadd, 1) := dk_96 (dk_at dksJ13_newCapacity_1 4 rfl rfl)
theorem dJ13_newCapacity_29 : decode cJ13_newCapacity 29 = .ok (.invokestatic 114, 3) := dk_184 0 114 (dk_at dksJ13_newCapacity_1 5 rfl rfl)
theorem dJ13_newCapacity_32 : decode cJ13_newCapacity 32 = .ok (.istore 5, 2) := dk_54 5 (dk_at dksJ13_newCapacity_1 8 rfl rfl)
theorem dJ13_newCapacity_34 : decode cJ13_newCapacity 34 = .ok (.iload 5, 2) := dk_21 5 (dk_at dksJ13_newCapacity_1 10 rfl rfl)
theorem dJ13_newCapacity_36 : decode cJ13_newCapacity 36 = .ok (.ldc 39, 2) := dk_18 39 (dk_at dksJ13_newCapacity_1 12 rfl rfl)
theorem dJ13_newCapacity_38 : decode cJ13_newCapacity 38 = .ok (.if_icmp .ne 13, 3) := dk_160 0 13 (dk_at dksJ13_newCapacity_1 14 rfl rfl)
theorem dJ13_newCapacity_41 : decode cJ13_newCapacity 41 = .ok (.new 120, 3) := dk_187 0 120 (dk_at dksJ13_newCapacity_1 17 rfl rfl)
theorem dJ13_newCapacity_44 : decode cJ13_newCapacity 44 = .ok (.dup, 1) := dk_89 (dk_at dksJ13_newCapacity_1 20 rfl rfl)
theorem dJ13_newCapacity_45 : decode cJ13_newCapacity 45 = .ok (.ldc 122, 2) := dk_18 122 (dk_at dksJ13_newCapacity_1 21 rfl rfl)
theorem dJ13_newCapacity_47 : decode cJ13_newCapacity 47 = .ok (.invokespecial 124, 3) := dk_183 0 124 (dk_at dksJ13_newCapacity_2 0 rfl rfl)
theorem dJ13_newCapacity_50 : decode cJ13_newCapacity 50 = .ok (.athrow, 1) := dk_191 (dk_at dksJ13_newCapacity_2 3 rfl rfl)
theorem dJ13_newCapacity_51 : decode cJ13_newCapacity 51 = .ok (.iload 5, 2) := dk_21 5 (dk_at dksJ13_newCapacity_2 4 rfl rfl)
theorem dJ13_newCapacity_53 : decode cJ13_newCapacity 53 = .ok (.aload_n 0, 1) := dk_42 (dk_at dksJ13_newCapacity_2 6 rfl rfl)
theorem dJ13_newCapacity_54 : decode cJ13_newCapacity 54 = .ok (.getfield 22, 3) := dk_180 0 22 (dk_at dksJ13_newCapacity_2 7 rfl rfl)
theorem dJ13_newCapacity_57 : decode cJ13_newCapacity 57 = .ok (.ishr, 1) := dk_122 (dk_at dksJ13_newCapacity_2 10 rfl rfl)
theorem dJ13_newCapacity_58 : decode cJ13_newCapacity 58 = .ok (.ireturn, 1) := dk_172 (dk_at dksJ13_newCapacity_2 11 rfl rfl)
abbrev iJ13_newCapacity : xM := (yJ13_newCapacity, cJ13_newCapacity, 6, (some .int), [])
theorem mJ13_newCapacity : xOkM iJ13_newCapacity := ⟨by decide +kernel, by decide, q427, q146⟩
abbrev cJ13_isLatin1 : ByteArray := prog_17_method_68_code
def yJ13_isLatin1 : MethodName := ⟨RJ13, "isLatin1", "()Z"⟩
def dkwJ13_isLatin1_0 : List UInt8 := [178, 0, 18, 153, 0, 14, 42, 180, 0, 22, 154, 0, 7, 4, 167, 0, 4, 3, 172]
abbrev dktJ13_isLatin1_0 : List UInt8 := dkwJ13_isLatin1_0 ++ []
theorem dksJ13_isLatin1_0 : cJ13_isLatin1.data.toList.drop 0 = dktJ13_isLatin1_0 := by decide +kernel
theorem dJ13_isLatin1_0 : decode cJ13_isLatin1 0 = .ok (.getstatic 18, 3) := dk_178 0 18 (dk_at dksJ13_isLatin1_0 0 rfl rfl)
theorem dJ13_isLatin1_3 : decode cJ13_isLatin1 3 = .ok (.ifCond .eq 14, 3) := dk_153 0 14 (dk_at dksJ13_isLatin1_0 3 rfl rfl)
theorem dJ13_isLatin1_6 : decode cJ13_isLatin1 6 = .ok (.aload_n 0, 1) := dk_42 (dk_at dksJ13_isLatin1_0 6 rfl rfl)
theorem dJ13_isLatin1_7 : decode cJ13_isLatin1 7 = .ok (.getfield 22, 3) := dk_180 0 22 (dk_at dksJ13_isLatin1_0 7 rfl rfl)
theorem dJ13_isLatin1_10 : decode cJ13_isLatin1 10 = .ok (.ifCond .ne 7, 3) := dk_154 0 7 (dk_at dksJ13_isLatin1_0 10 rfl rfl)
theorem dJ13_isLatin1_13 : decode cJ13_isLatin1 13 = .ok (.iconst 1, 1) := dk_4 (dk_at dksJ13_isLatin1_0 13 rfl rfl)
theorem dJ13_isLatin1_14 : decode cJ13_isLatin1 14 = .ok (.goto 4, 3) := dk_167 0 4 (dk_at dksJ13_isLatin1_0 14 rfl rfl)
theorem dJ13_isLatin1_17 : decode cJ13_isLatin1 17 = .ok (.iconst 0, 1) := dk_3 (dk_at dksJ13_isLatin1_0 17 rfl rfl)
theorem dJ13_isLatin1_18 : decode cJ13_isLatin1 18 = .ok (.ireturn, 1) := dk_172 (dk_at dksJ13_isLatin1_0 18 rfl rfl)
abbrev iJ13_isLatin1 : xM := (yJ13_isLatin1, cJ13_isLatin1, 1, (some .boolean), [])
theorem mJ13_isLatin1 : xOkM iJ13_isLatin1 := ⟨by decide +kernel, by decide, q459, q146⟩
abbrev cJ13_putStringAt : ByteArray := prog_17_method_73_code
def yJ13_putStringAt : MethodName := ⟨RJ13, "putStringAt", "(ILjava/lang/String;)V"⟩
def dkwJ13_putStringAt_0 : List UInt8 := [42, 44, 182, 1, 141, 44, 42, 180, 0, 15, 27, 42, 180, 0, 22, 182, 1, 143, 177]
abbrev dktJ13_putStringAt_0 : List UInt8 := dkwJ13_putStringAt_0 ++ []
theorem dksJ13_putStringAt_0 : cJ13_putStringAt.data.toList.drop 0 = dktJ13_putStringAt_0 := by decide +kernel
theorem dJ13_putStringAt_0 : decode cJ13_putStringAt 0 = .ok (.aload_n 0, 1) := dk_42 (dk_at dksJ13_putStringAt_0 0 rfl rfl)
theorem dJ13_putStringAt_1 : decode cJ13_putStringAt 1 = .ok (.aload_n 2, 1) := dk_44 (dk_at dksJ13_putStringAt_0 1 rfl rfl)
theorem dJ13_putStringAt_2 : decode cJ13_putStringAt 2 = .ok (.invokevirtual 397, 3) := dk_182 1 141 (dk_at dksJ13_putStringAt_0 2 rfl rfl)
theorem dJ13_putStringAt_5 : decode cJ13_putStringAt 5 = .ok (.aload_n 2, 1) := dk_44 (dk_at dksJ13_putStringAt_0 5 rfl rfl)
theorem dJ13_putStringAt_6 : decode cJ13_putStringAt 6 = .ok (.aload_n 0, 1) := dk_42 (dk_at dksJ13_putStringAt_0 6 rfl rfl)
theorem dJ13_putStringAt_7 : decode cJ13_putStringAt 7 = .ok (.getfield 15, 3) := dk_180 0 15 (dk_at dksJ13_putStringAt_0 7 rfl rfl)
theorem dJ13_putStringAt_10 : decode cJ13_putStringAt 10 = .ok (.iload_n 1, 1) := dk_27 (dk_at dksJ13_putStringAt_0 10 rfl rfl)
theorem dJ13_putStringAt_11 : decode cJ13_putStringAt 11 = .ok (.aload_n 0, 1) := dk_42 (dk_at dksJ13_putStringAt_0 11 rfl rfl)
theorem dJ13_putStringAt_12 : decode cJ13_putStringAt 12 = .ok (.getfield 22, 3) := dk_180 0 22 (dk_at dksJ13_putStringAt_0 12 rfl rfl)
theorem dJ13_putStringAt_15 : decode cJ13_putStringAt 15 = .ok (.invokevirtual 399, 3) := dk_182 1 143 (dk_at dksJ13_putStringAt_0 15 rfl rfl)
theorem dJ13_putStringAt_18 : decode cJ13_putStringAt 18 = .ok (.return_, 1) := dk_177 (dk_at dksJ13_putStringAt_0 18 rfl rfl)
abbrev iJ13_putStringAt : xM := (yJ13_putStringAt, cJ13_putStringAt, 3, none, [])
theorem mJ13_putStringAt : xOkM iJ13_putStringAt := ⟨by decide +kernel, by decide, q498, q146⟩
abbrev cJ13_inflateIfNeededFor : ByteArray := prog_17_method_71_code
def yJ13_inflateIfNeededFor : MethodName := ⟨RJ13, "inflateIfNeededFor", "(Ljava/lang/String;)V"⟩
def dkwJ13_inflateIfNeededFor_0 : List UInt8 := [178, 0, 18, 153, 0, 18, 42, 180, 0, 22, 43, 182, 0, 40, 159, 0, 7, 42, 182, 0, 195, 177]
abbrev dktJ13_inflateIfNeededFor_0 : List UInt8 := dkwJ13_inflateIfNeededFor_0 ++ []
theorem dksJ13_inflateIfNeededFor_0 : cJ13_inflateIfNeededFor.data.toList.drop 0 = dktJ13_inflateIfNeededFor_0 := by decide +kernel
theorem dJ13_inflateIfNeededFor_0 : decode cJ13_inflateIfNeededFor 0 = .ok (.getstatic 18, 3) := dk_178 0 18 (dk_at dksJ13_inflateIfNeededFor_0 0 rfl rfl)
theorem dJ13_inflateIfNeededFor_3 : decode cJ13_inflateIfNeededFor 3 = .ok (.ifCond .eq 18, 3) := dk_153 0 18 (dk_at dksJ13_inflateIfNeededFor_0 3 rfl rfl)
theorem dJ13_inflateIfNeededFor_6 : decode cJ13_inflateIfNeededFor 6 = .ok (.aload_n 0, 1) := dk_42 (dk_at dksJ13_inflateIfNeededFor_0 6 rfl rfl)
theorem dJ13_inflateIfNeededFor_7 : decode cJ13_inflateIfNeededFor 7 = .ok (.getfield 22, 3) := dk_180 0 22 (dk_at dksJ13_inflateIfNeededFor_0 7 rfl rfl)
theorem dJ13_inflateIfNeededFor_10 : decode cJ13_inflateIfNeededFor 10 = .ok (.aload_n 1, 1) := dk_43 (dk_at dksJ13_inflateIfNeededFor_0 10 rfl rfl)
theorem dJ13_inflateIfNeededFor_11 : decode cJ13_inflateIfNeededFor 11 = .ok (.invokevirtual 40, 3) := dk_182 0 40 (dk_at dksJ13_inflateIfNeededFor_0 11 rfl rfl)
theorem dJ13_inflateIfNeededFor_14 : decode cJ13_inflateIfNeededFor 14 = .ok (.if_icmp .eq 7, 3) := dk_159 0 7 (dk_at dksJ13_inflateIfNeededFor_0 14 rfl rfl)
theorem dJ13_inflateIfNeededFor_17 : decode cJ13_inflateIfNeededFor 17 = .ok (.aload_n 0, 1) := dk_42 (dk_at dksJ13_inflateIfNeededFor_0 17 rfl rfl)
theorem dJ13_inflateIfNeededFor_18 : decode cJ13_inflateIfNeededFor 18 = .ok (.invokevirtual 195, 3) := dk_182 0 195 (dk_at dksJ13_inflateIfNeededFor_0 18 rfl rfl)
theorem dJ13_inflateIfNeededFor_21 : decode cJ13_inflateIfNeededFor 21 = .ok (.return_, 1) := dk_177 (dk_at dksJ13_inflateIfNeededFor_0 21 rfl rfl)
abbrev iJ13_inflateIfNeededFor : xM := (yJ13_inflateIfNeededFor, cJ13_inflateIfNeededFor, 2, none, [])
theorem mJ13_inflateIfNeededFor : xOkM iJ13_inflateIfNeededFor := ⟨by decide +kernel, by decide, q502, q146⟩
abbrev cJ13_inflate : ByteArray := prog_17_method_11_code
def yJ13_inflate : MethodName := ⟨RJ13, "inflate", "()V"⟩
def dkwJ13_inflate_1 : List UInt8 := [42, 180, 0, 79, 184, 0, 125, 42, 43, 181, 0, 15, 42, 4, 181, 0, 22, 177]
abbrev dktJ13_inflate_1 : List UInt8 := dkwJ13_inflate_1 ++ []
def dkwJ13_inflate_0 : List UInt8 := [42, 182, 0, 83, 154, 0, 4, 177, 42, 180, 0, 15, 190, 184, 0, 26, 76, 42, 180, 0, 15, 3, 43, 3]
abbrev dktJ13_inflate_0 : List UInt8 := dkwJ13_inflate_0 ++ dktJ13_inflate_1
theorem dksJ13_inflate_0 : cJ13_inflate.data.toList.drop 0 = dktJ13_inflate_0 := by decide +kernel
theorem dksJ13_inflate_1 : cJ13_inflate.data.toList.drop 24 = dktJ13_inflate_1 := dk_seg dksJ13_inflate_0 24 rfl rfl
theorem dJ13_inflate_0 : decode cJ13_inflate 0 = .ok (.aload_n 0, 1) := dk_42 (dk_at dksJ13_inflate_0 0 rfl rfl)
theorem dJ13_inflate_1 : decode cJ13_inflate 1 = .ok (.invokevirtual 83, 3) := dk_182 0 83 (dk_at dksJ13_inflate_0 1 rfl rfl)
theorem dJ13_inflate_4 : decode cJ13_inflate 4 = .ok (.ifCond .ne 4, 3) := dk_154 0 4 (dk_at dksJ13_inflate_0 4 rfl rfl)
theorem dJ13_inflate_7 : decode cJ13_inflate 7 = .ok (.return_, 1) := dk_177 (dk_at dksJ13_inflate_0 7 rfl rfl)
theorem dJ13_inflate_8 : decode cJ13_inflate 8 = .ok (.aload_n 0, 1) := dk_42 (dk_at dksJ13_inflate_0 8 rfl rfl)
theorem dJ13_inflate_9 : decode cJ13_inflate 9 = .ok (.getfield 15, 3) := dk_180 0 15 (dk_at dksJ13_inflate_0 9 rfl rfl)
theorem dJ13_inflate_12 : decode cJ13_inflate 12 = .ok (.arraylength, 1) := dk_190 (dk_at dksJ13_inflate_0 12 rfl rfl)
theorem dJ13_inflate_13 : decode cJ13_inflate 13 = .ok (.invokestatic 26, 3) := dk_184 0 26 (dk_at dksJ13_inflate_0 13 rfl rfl)
theorem dJ13_inflate_16 : decode cJ13_inflate 16 = .ok (.astore_n 1, 1) := dk_76 (dk_at dksJ13_inflate_0 16 rfl rfl)
theorem dJ13_inflate_17 : decode cJ13_inflate 17 = .ok (.aload_n 0, 1) := dk_42 (dk_at dksJ13_inflate_0 17 rfl rfl)
theorem dJ13_inflate_18 : decode cJ13_inflate 18 = .ok (.getfield 15, 3) := dk_180 0 15 (dk_at dksJ13_inflate_0 18 rfl rfl)
theorem dJ13_inflate_21 : decode cJ13_inflate 21 = .ok (.iconst 0, 1) := dk_3 (dk_at dksJ13_inflate_0 21 rfl rfl)
theorem dJ13_inflate_22 : decode cJ13_inflate 22 = .ok (.aload_n 1, 1) := dk_43 (dk_at dksJ13_inflate_0 22 rfl rfl)
theorem dJ13_inflate_23 : decode cJ13_inflate 23 = .ok (.iconst 0, 1) := dk_3 (dk_at dksJ13_inflate_0 23 rfl rfl)
theorem dJ13_inflate_24 : decode cJ13_inflate 24 = .ok (.aload_n 0, 1) := dk_42 (dk_at dksJ13_inflate_1 0 rfl rfl)
theorem dJ13_inflate_25 : decode cJ13_inflate 25 = .ok (.getfield 79, 3) := dk_180 0 79 (dk_at dksJ13_inflate_1 1 rfl rfl)
theorem dJ13_inflate_28 : decode cJ13_inflate 28 = .ok (.invokestatic 125, 3) := dk_184 0 125 (dk_at dksJ13_inflate_1 4 rfl rfl)
theorem dJ13_inflate_31 : decode cJ13_inflate 31 = .ok (.aload_n 0, 1) := dk_42 (dk_at dksJ13_inflate_1 7 rfl rfl)
theorem dJ13_inflate_32 : decode cJ13_inflate 32 = .ok (.aload_n 1, 1) := dk_43 (dk_at dksJ13_inflate_1 8 rfl rfl)
theorem dJ13_inflate_33 : decode cJ13_inflate 33 = .ok (.putfield 15, 3) := dk_181 0 15 (dk_at dksJ13_inflate_1 9 rfl rfl)
theorem dJ13_inflate_36 : decode cJ13_inflate 36 = .ok (.aload_n 0, 1) := dk_42 (dk_at dksJ13_inflate_1 12 rfl rfl)
theorem dJ13_inflate_37 : decode cJ13_inflate 37 = .ok (.iconst 1, 1) := dk_4 (dk_at dksJ13_inflate_1 13 rfl rfl)
theorem dJ13_inflate_38 : decode cJ13_inflate 38 = .ok (.putfield 22, 3) := dk_181 0 22 (dk_at dksJ13_inflate_1 14 rfl rfl)
theorem dJ13_inflate_41 : decode cJ13_inflate 41 = .ok (.return_, 1) := dk_177 (dk_at dksJ13_inflate_1 17 rfl rfl)
abbrev iJ13_inflate : xM := (yJ13_inflate, cJ13_inflate, 2, none, [])
theorem mJ13_inflate : xOkM iJ13_inflate := ⟨by decide +kernel, by decide, q507, q146⟩
abbrev cJ13_append_2 : ByteArray := prog_17_method_32_code
def yJ13_append_2 : MethodName := ⟨RJ13, "append", "(I)Ljava/lang/AbstractStringBuilder;"⟩
def dkwJ13_append_2_2 : List UInt8 := [42, 29, 181, 0, 79, 42, 176]
abbrev dktJ13_append_2_2 : List UInt8 := dkwJ13_append_2_2 ++ []
def dkwJ13_append_2_1 : List UInt8 := [27, 29, 42, 180, 0, 15, 184, 0, 248, 87, 167, 0, 14, 27, 28, 29, 42, 180, 0, 15, 184, 0, 251, 87]
abbrev dktJ13_append_2_1 : List UInt8 := dkwJ13_append_2_1 ++ dktJ13_append_2_2
def dkwJ13_append_2_0 : List UInt8 := [42, 180, 0, 79, 61, 28, 27, 184, 0, 245, 96, 62, 42, 29, 182, 0, 100, 42, 182, 0, 83, 153, 0, 16]
abbrev dktJ13_append_2_0 : List UInt8 := dkwJ13_append_2_0 ++ dktJ13_append_2_1
theorem dksJ13_append_2_0 : cJ13_append_2.data.toList.drop 0 = dktJ13_append_2_0 := by decide +kernel
theorem dksJ13_append_2_1 : cJ13_append_2.data.toList.drop 24 = dktJ13_append_2_1 := dk_seg dksJ13_append_2_0 24 rfl rfl
theorem dksJ13_append_2_2 : cJ13_append_2.data.toList.drop 48 = dktJ13_append_2_2 := dk_seg dksJ13_append_2_1 24 rfl rfl
theorem dJ13_append_2_0 : decode cJ13_append_2 0 = .ok (.aload_n 0, 1) := dk_42 (dk_at dksJ13_append_2_0 0 rfl rfl)
theorem dJ13_append_2_1 : decode cJ13_append_2 1 = .ok (.getfield 79, 3) := dk_180 0 79 (dk_at dksJ13_append_2_0 1 rfl rfl)
theorem dJ13_append_2_4 : decode cJ13_append_2 4 = .ok (.istore_n 2, 1) := dk_61 (dk_at dksJ13_append_2_0 4 rfl rfl)
theorem dJ13_append_2_5 : decode cJ13_append_2 5 = .ok (.iload_n 2, 1) := dk_28 (dk_at dksJ13_append_2_0 5 rfl rfl)
theorem dJ13_append_2_6 : decode cJ13_append_2 6 = .ok (.iload_n 1, 1) := dk_27 (dk_at dksJ13_append_2_0 6 rfl rfl)
theorem dJ13_append_2_7 : decode cJ13_append_2 7 = .ok (.invokestatic 245, 3) := dk_184 0 245 (dk_at dksJ13_append_2_0 7 rfl rfl)
theorem dJ13_append_2_10 : decode cJ13_append_2 10 = .ok (.iadd, 1) := dk_96 (dk_at dksJ13_append_2_0 10 rfl rfl)
theorem dJ13_append_2_11 : decode cJ13_append_2 11 = .ok (.istore_n 3, 1) := dk_62 (dk_at dksJ13_append_2_0 11 rfl rfl)
theorem dJ13_append_2_12 : decode cJ13_append_2 12 = .ok (.aload_n 0, 1) := dk_42 (dk_at dksJ13_append_2_0 12 rfl rfl)
theorem dJ13_append_2_13 : decode cJ13_append_2 13 = .ok (.iload_n 3, 1) := dk_29 (dk_at dksJ13_append_2_0 13 rfl rfl)
theorem dJ13_append_2_14 : decode cJ13_append_2 14 = .ok (.invokevirtual 100, 3) := dk_182 0 100 (dk_at dksJ13_append_2_0 14 rfl rfl)
theorem dJ13_append_2_17 : decode cJ13_append_2 17 = .ok (.aload_n 0, 1) := dk_42 (dk_at dksJ13_append_2_0 17 rfl rfl)
theorem dJ13_append_2_18 : decode cJ13_append_2 18 = .ok (.invokevirtual 83, 3) := dk_182 0 83 (dk_at dksJ13_append_2_0 18 rfl rfl)
theorem dJ13_append_2_21 : decode cJ13_append_2 21 = .ok (.ifCond .eq 16, 3) := dk_153 0 16 (dk_at dksJ13_append_2_0 21 rfl rfl)
theorem dJ13_append_2_24 : decode cJ13_append_2 24 = .ok (.iload_n 1, 1) := dk_27 (dk_at dksJ13_append_2_1 0 rfl rfl)
theorem dJ13_append_2_25 : decode cJ13_append_2 25 = .ok (.iload_n 3, 1) := dk_29 (dk_at dksJ13_append_2_1 1 rfl rfl)
theorem dJ13_append_2_26 : decode cJ13_append_2 26 = .ok (.aload_n 0, 1) := dk_42 (dk_at dksJ13_append_2_1 2 rfl rfl)
theorem dJ13_append_2_27 : decode cJ13_append_2 27 = .ok (.getfield 15, 3) := dk_180 0 15 (dk_at dksJ13_append_2_1 3 rfl rfl)
theorem dJ13_append_2_30 : decode cJ13_append_2 30 = .ok (.invokestatic 248, 3) := dk_184 0 248 (dk_at dksJ13_append_2_1 6 rfl rfl)
theorem dJ13_append_2_33 : decode cJ13_append_2 33 = .ok (.pop, 1) := dk_87 (dk_at dksJ13_append_2_1 9 rfl rfl)
theorem dJ13_append_2_34 : decode cJ13_append_2 34 = .ok (.goto 14, 3) := dk_167 0 14 (dk_at dksJ13_append_2_1 10 rfl rfl)
theorem dJ13_append_2_37 : decode cJ13_append_2 37 = .ok (.iload_n 1, 1) := dk_27 (dk_at dksJ13_append_2_1 13 rfl rfl)
theorem dJ13_append_2_38 : decode cJ13_append_2 38 = .ok (.iload_n 2, 1) := dk_28 (dk_at dksJ13_append_2_1 14 rfl rfl)
theorem dJ13_append_2_39 : decode cJ13_append_2 39 = .ok (.iload_n 3, 1) := dk_29 (dk_at dksJ13_append_2_1 15 rfl rfl)
theorem dJ13_append_2_40 : decode cJ13_append_2 40 = .ok (.aload_n 0, 1) := dk_42 (dk_at dksJ13_append_2_1 16 rfl rfl)
theorem dJ13_append_2_41 : decode cJ13_append_2 41 = .ok (.getfield 15, 3) := dk_180 0 15 (dk_at dksJ13_append_2_1 17 rfl rfl)
theorem dJ13_append_2_44 : decode cJ13_append_2 44 = .ok (.invokestatic 251, 3) := dk_184 0 251 (dk_at dksJ13_append_2_1 20 rfl rfl)
theorem dJ13_append_2_47 : decode cJ13_append_2 47 = .ok (.pop, 1) := dk_87 (dk_at dksJ13_append_2_1 23 rfl rfl)
theorem dJ13_append_2_48 : decode cJ13_append_2 48 = .ok (.aload_n 0, 1) := dk_42 (dk_at dksJ13_append_2_2 0 rfl rfl)
theorem dJ13_append_2_49 : decode cJ13_append_2 49 = .ok (.iload_n 3, 1) := dk_29 (dk_at dksJ13_append_2_2 1 rfl rfl)
theorem dJ13_append_2_50 : decode cJ13_append_2 50 = .ok (.putfield 79, 3) := dk_181 0 79 (dk_at dksJ13_append_2_2 2 rfl rfl)
theorem dJ13_append_2_53 : decode cJ13_append_2 53 = .ok (.aload_n 0, 1) := dk_42 (dk_at dksJ13_append_2_2 5 rfl rfl)
theorem dJ13_append_2_54 : decode cJ13_append_2 54 = .ok (.areturn, 1) := dk_176 (dk_at dksJ13_append_2_2 6 rfl rfl)
abbrev iJ13_append_2 : xM := (yJ13_append_2, cJ13_append_2, 4, (some (.object "java/lang/AbstractStringBuilder")), [])
theorem mJ13_append_2 : xOkM iJ13_append_2 := ⟨by decide +kernel, by decide, q535, q146⟩
abbrev cJ13_getValue : ByteArray := prog_17_method_64_code
def yJ13_getValue : MethodName := ⟨RJ13, "getValue", "()[B"⟩
theorem dJ13_getValue_0 : decode cJ13_getValue 0 = .ok (.aload_n 0, 1) := by decide +kernel
theorem dJ13_getValue_1 : decode cJ13_getValue 1 = .ok (.getfield 15, 3) := by decide +kernel
theorem dJ13_getValue_4 : decode cJ13_getValue 4 = .ok (.areturn, 1) := by decide +kernel
abbrev iJ13_getValue : xM := (yJ13_getValue, cJ13_getValue, 1, (some (.array .byte)), [])
theorem mJ13_getValue : xOkM iJ13_getValue := ⟨by decide +kernel, by decide, q571, q146⟩
abbrev cJ13_length : ByteArray := prog_17_method_6_code
def yJ13_length : MethodName := ⟨RJ13, "length", "()I"⟩
theorem dJ13_length_0 : decode cJ13_length 0 = .ok (.aload_n 0, 1) := by decide +kernel
theorem dJ13_length_1 : decode cJ13_length 1 = .ok (.getfield 79, 3) := by decide +kernel
theorem dJ13_length_4 : decode cJ13_length 4 = .ok (.ireturn, 1) := by decide +kernel
abbrev iJ13_length : xM := (yJ13_length, cJ13_length, 1, (some .int), [])
theorem mJ13_length : xOkM iJ13_length := ⟨by decide +kernel, by decide, q579, q146⟩
abbrev cJ13_append_3 : ByteArray := prog_17_method_34_code
def yJ13_append_3 : MethodName := ⟨RJ13, "append", "(F)Ljava/lang/AbstractStringBuilder;"⟩
def dkwJ13_append_3_0 : List UInt8 := [35, 42, 184, 1, 9, 87, 167, 0, 13, 77, 187, 1, 17, 89, 44, 183, 1, 19, 191, 42, 176]
abbrev dktJ13_append_3_0 : List UInt8 := dkwJ13_append_3_0 ++ []
theorem dksJ13_append_3_0 : cJ13_append_3.data.toList.drop 0 = dktJ13_append_3_0 := by decide +kernel
theorem dJ13_append_3_0 : decode cJ13_append_3 0 = .ok (.fload_n 1, 1) := dk_35 (dk_at dksJ13_append_3_0 0 rfl rfl)
theorem dJ13_append_3_1 : decode cJ13_append_3 1 = .ok (.aload_n 0, 1) := dk_42 (dk_at dksJ13_append_3_0 1 rfl rfl)
theorem dJ13_append_3_2 : decode cJ13_append_3 2 = .ok (.invokestatic 265, 3) := dk_184 1 9 (dk_at dksJ13_append_3_0 2 rfl rfl)
theorem dJ13_append_3_5 : decode cJ13_append_3 5 = .ok (.pop, 1) := dk_87 (dk_at dksJ13_append_3_0 5 rfl rfl)
theorem dJ13_append_3_6 : decode cJ13_append_3 6 = .ok (.goto 13, 3) := dk_167 0 13 (dk_at dksJ13_append_3_0 6 rfl rfl)
theorem dJ13_append_3_9 : decode cJ13_append_3 9 = .ok (.astore_n 2, 1) := dk_77 (dk_at dksJ13_append_3_0 9 rfl rfl)
theorem dJ13_append_3_10 : decode cJ13_append_3 10 = .ok (.new 273, 3) := dk_187 1 17 (dk_at dksJ13_append_3_0 10 rfl rfl)
theorem dJ13_append_3_13 : decode cJ13_append_3 13 = .ok (.dup, 1) := dk_89 (dk_at dksJ13_append_3_0 13 rfl rfl)
theorem dJ13_append_3_14 : decode cJ13_append_3 14 = .ok (.aload_n 2, 1) := dk_44 (dk_at dksJ13_append_3_0 14 rfl rfl)
theorem dJ13_append_3_15 : decode cJ13_append_3 15 = .ok (.invokespecial 275, 3) := dk_183 1 19 (dk_at dksJ13_append_3_0 15 rfl rfl)
theorem dJ13_append_3_18 : decode cJ13_append_3 18 = .ok (.athrow, 1) := dk_191 (dk_at dksJ13_append_3_0 18 rfl rfl)
theorem dJ13_append_3_19 : decode cJ13_append_3 19 = .ok (.aload_n 0, 1) := dk_42 (dk_at dksJ13_append_3_0 19 rfl rfl)
theorem dJ13_append_3_20 : decode cJ13_append_3 20 = .ok (.areturn, 1) := dk_176 (dk_at dksJ13_append_3_0 20 rfl rfl)
abbrev iJ13_append_3 : xM := (yJ13_append_3, cJ13_append_3, 3, (some (.object "java/lang/AbstractStringBuilder")), [(0, 6, 9, 271)])
theorem mJ13_append_3 : xOkM iJ13_append_3 := ⟨by decide +kernel, by decide, q660, q146⟩
abbrev cJ13_append_4 : ByteArray := prog_17_method_28_code
def yJ13_append_4 : MethodName := ⟨RJ13, "append", "([C)Ljava/lang/AbstractStringBuilder;"⟩
def dkwJ13_append_4_0 : List UInt8 := [43, 190, 61, 42, 42, 180, 0, 79, 28, 96, 182, 0, 100, 42, 43, 3, 28, 182, 0, 239, 42, 176]
abbrev dktJ13_append_4_0 : List UInt8 := dkwJ13_append_4_0 ++ []
theorem dksJ13_append_4_0 : cJ13_append_4.data.toList.drop 0 = dktJ13_append_4_0 := by decide +kernel
theorem dJ13_append_4_0 : decode cJ13_append_4 0 = .ok (.aload_n 1, 1) := dk_43 (dk_at dksJ13_append_4_0 0 rfl rfl)
theorem dJ13_append_4_1 : decode cJ13_append_4 1 = .ok (.arraylength, 1) := dk_190 (dk_at dksJ13_append_4_0 1 rfl rfl)
theorem dJ13_append_4_2 : decode cJ13_append_4 2 = .ok (.istore_n 2, 1) := dk_61 (dk_at dksJ13_append_4_0 2 rfl rfl)
theorem dJ13_append_4_3 : decode cJ13_append_4 3 = .ok (.aload_n 0, 1) := dk_42 (dk_at dksJ13_append_4_0 3 rfl rfl)
theorem dJ13_append_4_4 : decode cJ13_append_4 4 = .ok (.aload_n 0, 1) := dk_42 (dk_at dksJ13_append_4_0 4 rfl rfl)
theorem dJ13_append_4_5 : decode cJ13_append_4 5 = .ok (.getfield 79, 3) := dk_180 0 79 (dk_at dksJ13_append_4_0 5 rfl rfl)
theorem dJ13_append_4_8 : decode cJ13_append_4 8 = .ok (.iload_n 2, 1) := dk_28 (dk_at dksJ13_append_4_0 8 rfl rfl)
theorem dJ13_append_4_9 : decode cJ13_append_4 9 = .ok (.iadd, 1) := dk_96 (dk_at dksJ13_append_4_0 9 rfl rfl)
theorem dJ13_append_4_10 : decode cJ13_append_4 10 = .ok (.invokevirtual 100, 3) := dk_182 0 100 (dk_at dksJ13_append_4_0 10 rfl rfl)
theorem dJ13_append_4_13 : decode cJ13_append_4 13 = .ok (.aload_n 0, 1) := dk_42 (dk_at dksJ13_append_4_0 13 rfl rfl)
theorem dJ13_append_4_14 : decode cJ13_append_4 14 = .ok (.aload_n 1, 1) := dk_43 (dk_at dksJ13_append_4_0 14 rfl rfl)
theorem dJ13_append_4_15 : decode cJ13_append_4 15 = .ok (.iconst 0, 1) := dk_3 (dk_at dksJ13_append_4_0 15 rfl rfl)
theorem dJ13_append_4_16 : decode cJ13_append_4 16 = .ok (.iload_n 2, 1) := dk_28 (dk_at dksJ13_append_4_0 16 rfl rfl)
theorem dJ13_append_4_17 : decode cJ13_append_4 17 = .ok (.invokevirtual 239, 3) := dk_182 0 239 (dk_at dksJ13_append_4_0 17 rfl rfl)
theorem dJ13_append_4_20 : decode cJ13_append_4 20 = .ok (.aload_n 0, 1) := dk_42 (dk_at dksJ13_append_4_0 20 rfl rfl)
theorem dJ13_append_4_21 : decode cJ13_append_4 21 = .ok (.areturn, 1) := dk_176 (dk_at dksJ13_append_4_0 21 rfl rfl)
abbrev iJ13_append_4 : xM := (yJ13_append_4, cJ13_append_4, 3, (some (.object "java/lang/AbstractStringBuilder")), [])
theorem mJ13_append_4 : xOkM iJ13_append_4 := ⟨by decide +kernel, by decide, q781, q146⟩
abbrev cJ13_appendChars : ByteArray := prog_17_method_74_code
def yJ13_appendChars : MethodName := ⟨RJ13, "appendChars", "([CII)V"⟩
def dkwJ13_appendChars_5 : List UInt8 := [184, 1, 130, 42, 21, 4, 29, 96, 28, 100, 181, 0, 79, 177]
abbrev dktJ13_appendChars_5 : List UInt8 := dkwJ13_appendChars_5 ++ []
def dkwJ13_appendChars_4 : List UInt8 := [181, 0, 79, 177, 132, 6, 1, 167, 255, 181, 167, 0, 15, 42, 180, 0, 15, 21, 4, 43, 28, 29]
abbrev dktJ13_appendChars_4 : List UInt8 := dkwJ13_appendChars_4 ++ dktJ13_appendChars_5
def dkwJ13_appendChars_3 : List UInt8 := [182, 0, 195, 42, 180, 0, 15, 21, 7, 43, 21, 6, 29, 184, 1, 130, 42, 21, 4, 29, 96, 21, 6, 100]
abbrev dktJ13_appendChars_3 : List UInt8 := dkwJ13_appendChars_3 ++ dktJ13_appendChars_4
def dkwJ13_appendChars_2 : List UInt8 := [21, 7, 132, 7, 1, 21, 8, 145, 84, 167, 0, 41, 42, 21, 7, 89, 54, 4, 181, 0, 79, 42]
abbrev dktJ13_appendChars_2 : List UInt8 := dkwJ13_appendChars_2 ++ dktJ13_appendChars_3
def dkwJ13_appendChars_1 : List UInt8 := [54, 7, 21, 6, 29, 162, 0, 75, 43, 21, 6, 52, 54, 8, 21, 8, 184, 0, 191, 153, 0, 17, 25, 5]
abbrev dktJ13_appendChars_1 : List UInt8 := dkwJ13_appendChars_1 ++ dktJ13_appendChars_2
def dkwJ13_appendChars_0 : List UInt8 := [42, 180, 0, 79, 54, 4, 42, 182, 0, 83, 153, 0, 97, 42, 180, 0, 15, 58, 5, 28, 54, 6, 21, 4]
abbrev dktJ13_appendChars_0 : List UInt8 := dkwJ13_appendChars_0 ++ dktJ13_appendChars_1
theorem dksJ13_appendChars_0 : cJ13_appendChars.data.toList.drop 0 = dktJ13_appendChars_0 := by decide +kernel
theorem dksJ13_appendChars_1 : cJ13_appendChars.data.toList.drop 24 = dktJ13_appendChars_1 := dk_seg dksJ13_appendChars_0 24 rfl rfl
theorem dksJ13_appendChars_2 : cJ13_appendChars.data.toList.drop 48 = dktJ13_appendChars_2 := dk_seg dksJ13_appendChars_1 24 rfl rfl
theorem dksJ13_appendChars_3 : cJ13_appendChars.data.toList.drop 70 = dktJ13_appendChars_3 := dk_seg dksJ13_appendChars_2 22 rfl rfl
theorem dksJ13_appendChars_4 : cJ13_appendChars.data.toList.drop 94 = dktJ13_appendChars_4 := dk_seg dksJ13_appendChars_3 24 rfl rfl
theorem dksJ13_appendChars_5 : cJ13_appendChars.data.toList.drop 116 = dktJ13_appendChars_5 := dk_seg dksJ13_appendChars_4 22 rfl rfl
theorem dJ13_appendChars_0 : decode cJ13_appendChars 0 = .ok (.aload_n 0, 1) := dk_42 (dk_at dksJ13_appendChars_0 0 rfl rfl)
theorem dJ13_appendChars_1 : decode cJ13_appendChars 1 = .ok (.getfield 79, 3) := dk_180 0 79 (dk_at dksJ13_appendChars_0 1 rfl rfl)
theorem dJ13_appendChars_4 : decode cJ13_appendChars 4 = .ok (.istore 4, 2) := dk_54 4 (dk_at dksJ13_appendChars_0 4 rfl rfl)
theorem dJ13_appendChars_6 : decode cJ13_appendChars 6 = .ok (.aload_n 0, 1) := dk_42 (dk_at dksJ13_appendChars_0 6 rfl rfl)
theorem dJ13_appendChars_7 : decode cJ13_appendChars 7 = .ok (.invokevirtual 83, 3) := dk_182 0 83 (dk_at dksJ13_appendChars_0 7 rfl rfl)
theorem dJ13_appendChars_10 : decode cJ13_appendChars 10 = .ok (.ifCond .eq 97, 3) := dk_153 0 97 (dk_at dksJ13_appendChars_0 10 rfl rfl)
theorem dJ13_appendChars_13 : decode cJ13_appendChars 13 = .ok (.aload_n 0, 1) := dk_42 (dk_at dksJ13_appendChars_0 13 rfl rfl)
theorem dJ13_appendChars_14 : decode cJ13_appendChars 14 = .ok (.getfield 15, 3) := dk_180 0 15 (dk_at dksJ13_appendChars_0 14 rfl rfl)
theorem dJ13_appendChars_17 : decode cJ13_appendChars 17 = .ok (.astore 5, 2) := dk_58 5 (dk_at dksJ13_appendChars_0 17 rfl rfl)
theorem dJ13_appendChars_19 : decode cJ13_appendChars 19 = .ok (.iload_n 2, 1) := dk_28 (dk_at dksJ13_appendChars_0 19 rfl rfl)
theorem dJ13_appendChars_20 : decode cJ13_appendChars 20 = .ok (.istore 6, 2) := dk_54 6 (dk_at dksJ13_appendChars_0 20 rfl rfl)
theorem dJ13_appendChars_22 : decode cJ13_appendChars 22 = .ok (.iload 4, 2) := dk_21 4 (dk_at dksJ13_appendChars_0 22 rfl rfl)
theorem dJ13_appendChars_24 : decode cJ13_appendChars 24 = .ok (.istore 7, 2) := dk_54 7 (dk_at dksJ13_appendChars_1 0 rfl rfl)
theorem dJ13_appendChars_26 : decode cJ13_appendChars 26 = .ok (.iload 6, 2) := dk_21 6 (dk_at dksJ13_appendChars_1 2 rfl rfl)
theorem dJ13_appendChars_28 : decode cJ13_appendChars 28 = .ok (.iload_n 3, 1) := dk_29 (dk_at dksJ13_appendChars_1 4 rfl rfl)
theorem dJ13_appendChars_29 : decode cJ13_appendChars 29 = .ok (.if_icmp .ge 75, 3) := dk_162 0 75 (dk_at dksJ13_appendChars_1 5 rfl rfl)
theorem dJ13_appendChars_32 : decode cJ13_appendChars 32 = .ok (.aload_n 1, 1) := dk_43 (dk_at dksJ13_appendChars_1 8 rfl rfl)
theorem dJ13_appendChars_33 : decode cJ13_appendChars 33 = .ok (.iload 6, 2) := dk_21 6 (dk_at dksJ13_appendChars_1 9 rfl rfl)
theorem dJ13_appendChars_35 : decode cJ13_appendChars 35 = .ok (.caload, 1) := dk_52 (dk_at dksJ13_appendChars_1 11 rfl rfl)
theorem dJ13_appendChars_36 : decode cJ13_appendChars 36 = .ok (.istore 8, 2) := dk_54 8 (dk_at dksJ13_appendChars_1 12 rfl rfl)
theorem dJ13_appendChars_38 : decode cJ13_appendChars 38 = .ok (.iload 8, 2) := dk_21 8 (dk_at dksJ13_appendChars_1 14 rfl rfl)
theorem dJ13_appendChars_40 : decode cJ13_appendChars 40 = .ok (.invokestatic 191, 3) := dk_184 0 191 (dk_at dksJ13_appendChars_1 16 rfl rfl)
theorem dJ13_appendChars_43 : decode cJ13_appendChars 43 = .ok (.ifCond .eq 17, 3) := dk_153 0 17 (dk_at dksJ13_appendChars_1 19 rfl rfl)
theorem dJ13_appendChars_46 : decode cJ13_appendChars 46 = .ok (.aload 5, 2) := dk_25 5 (dk_at dksJ13_appendChars_1 22 rfl rfl)
theorem dJ13_appendChars_48 : decode cJ13_appendChars 48 = .ok (.iload 7, 2) := dk_21 7 (dk_at dksJ13_appendChars_2 0 rfl rfl)
theorem dJ13_appendChars_50 : decode cJ13_appendChars 50 = .ok (.iinc 7 1, 3) := dk_132 7 1 (dk_at dksJ13_appendChars_2 2 rfl rfl)
theorem dJ13_appendChars_53 : decode cJ13_appendChars 53 = .ok (.iload 8, 2) := dk_21 8 (dk_at dksJ13_appendChars_2 5 rfl rfl)
theorem dJ13_appendChars_55 : decode cJ13_appendChars 55 = .ok (.i2b, 1) := dk_145 (dk_at dksJ13_appendChars_2 7 rfl rfl)
theorem dJ13_appendChars_56 : decode cJ13_appendChars 56 = .ok (.bastore, 1) := dk_84 (dk_at dksJ13_appendChars_2 8 rfl rfl)
theorem dJ13_appendChars_57 : decode cJ13_appendChars 57 = .ok (.goto 41, 3) := dk_167 0 41 (dk_at dksJ13_appendChars_2 9 rfl rfl)
theorem dJ13_appendChars_60 : decode cJ13_appendChars 60 = .ok (.aload_n 0, 1) := dk_42 (dk_at dksJ13_appendChars_2 12 rfl rfl)
theorem dJ13_appendChars_61 : decode cJ13_appendChars 61 = .ok (.iload 7, 2) := dk_21 7 (dk_at dksJ13_appendChars_2 13 rfl rfl)
theorem dJ13_appendChars_63 : decode cJ13_appendChars 63 = .ok (.dup, 1) := dk_89 (dk_at dksJ13_appendChars_2 15 rfl rfl)
theorem dJ13_appendChars_64 : decode cJ13_appendChars 64 = .ok (.istore 4, 2) := dk_54 4 (dk_at dksJ13_appendChars_2 16 rfl rfl)
theorem dJ13_appendChars_66 : decode cJ13_appendChars 66 = .ok (.putfield 79, 3) := dk_181 0 79 (dk_at dksJ13_appendChars_2 18 rfl rfl)
theorem dJ13_appendChars_69 : decode cJ13_appendChars 69 = .ok (.aload_n 0, 1) := dk_42 (dk_at dksJ13_appendChars_2 21 rfl rfl)
theorem dJ13_appendChars_70 : decode cJ13_appendChars 70 = .ok (.invokevirtual 195, 3) := dk_182 0 195 (dk_at dksJ13_appendChars_3 0 rfl rfl)
theorem dJ13_appendChars_73 : decode cJ13_appendChars 73 = .ok (.aload_n 0, 1) := dk_42 (dk_at dksJ13_appendChars_3 3 rfl rfl)
theorem dJ13_appendChars_74 : decode cJ13_appendChars 74 = .ok (.getfield 15, 3) := dk_180 0 15 (dk_at dksJ13_appendChars_3 4 rfl rfl)
theorem dJ13_appendChars_77 : decode cJ13_appendChars 77 = .ok (.iload 7, 2) := dk_21 7 (dk_at dksJ13_appendChars_3 7 rfl rfl)
theorem dJ13_appendChars_79 : decode cJ13_appendChars 79 = .ok (.aload_n 1, 1) := dk_43 (dk_at dksJ13_appendChars_3 9 rfl rfl)
theorem dJ13_appendChars_80 : decode cJ13_appendChars 80 = .ok (.iload 6, 2) := dk_21 6 (dk_at dksJ13_appendChars_3 10 rfl rfl)
theorem dJ13_appendChars_82 : decode cJ13_appendChars 82 = .ok (.iload_n 3, 1) := dk_29 (dk_at dksJ13_appendChars_3 12 rfl rfl)
theorem dJ13_appendChars_83 : decode cJ13_appendChars 83 = .ok (.invokestatic 386, 3) := dk_184 1 130 (dk_at dksJ13_appendChars_3 13 rfl rfl)
theorem dJ13_appendChars_86 : decode cJ13_appendChars 86 = .ok (.aload_n 0, 1) := dk_42 (dk_at dksJ13_appendChars_3 16 rfl rfl)
theorem dJ13_appendChars_87 : decode cJ13_appendChars 87 = .ok (.iload 4, 2) := dk_21 4 (dk_at dksJ13_appendChars_3 17 rfl rfl)
theorem dJ13_appendChars_89 : decode cJ13_appendChars 89 = .ok (.iload_n 3, 1) := dk_29 (dk_at dksJ13_appendChars_3 19 rfl rfl)
theorem dJ13_appendChars_90 : decode cJ13_appendChars 90 = .ok (.iadd, 1) := dk_96 (dk_at dksJ13_appendChars_3 20 rfl rfl)
theorem dJ13_appendChars_91 : decode cJ13_appendChars 91 = .ok (.iload 6, 2) := dk_21 6 (dk_at dksJ13_appendChars_3 21 rfl rfl)
theorem dJ13_appendChars_93 : decode cJ13_appendChars 93 = .ok (.isub, 1) := dk_100 (dk_at dksJ13_appendChars_3 23 rfl rfl)
theorem dJ13_appendChars_94 : decode cJ13_appendChars 94 = .ok (.putfield 79, 3) := dk_181 0 79 (dk_at dksJ13_appendChars_4 0 rfl rfl)
theorem dJ13_appendChars_97 : decode cJ13_appendChars 97 = .ok (.return_, 1) := dk_177 (dk_at dksJ13_appendChars_4 3 rfl rfl)
theorem dJ13_appendChars_98 : decode cJ13_appendChars 98 = .ok (.iinc 6 1, 3) := dk_132 6 1 (dk_at dksJ13_appendChars_4 4 rfl rfl)
theorem dJ13_appendChars_101 : decode cJ13_appendChars 101 = .ok (.goto (-75), 3) := dk_167 255 181 (dk_at dksJ13_appendChars_4 7 rfl rfl)
theorem dJ13_appendChars_104 : decode cJ13_appendChars 104 = .ok (.goto 15, 3) := dk_167 0 15 (dk_at dksJ13_appendChars_4 10 rfl rfl)
theorem dJ13_appendChars_107 : decode cJ13_appendChars 107 = .ok (.aload_n 0, 1) := dk_42 (dk_at dksJ13_appendChars_4 13 rfl rfl)
theorem dJ13_appendChars_108 : decode cJ13_appendChars 108 = .ok (.getfield 15, 3) := dk_180 0 15 (dk_at dksJ13_appendChars_4 14 rfl rfl)
theorem dJ13_appendChars_111 : decode cJ13_appendChars 111 = .ok (.iload 4, 2) := dk_21 4 (dk_at dksJ13_appendChars_4 17 rfl rfl)
theorem dJ13_appendChars_113 : decode cJ13_appendChars 113 = .ok (.aload_n 1, 1) := dk_43 (dk_at dksJ13_appendChars_4 19 rfl rfl)
theorem dJ13_appendChars_114 : decode cJ13_appendChars 114 = .ok (.iload_n 2, 1) := dk_28 (dk_at dksJ13_appendChars_4 20 rfl rfl)
theorem dJ13_appendChars_115 : decode cJ13_appendChars 115 = .ok (.iload_n 3, 1) := dk_29 (dk_at dksJ13_appendChars_4 21 rfl rfl)
theorem dJ13_appendChars_116 : decode cJ13_appendChars 116 = .ok (.invokestatic 386, 3) := dk_184 1 130 (dk_at dksJ13_appendChars_5 0 rfl rfl)
theorem dJ13_appendChars_119 : decode cJ13_appendChars 119 = .ok (.aload_n 0, 1) := dk_42 (dk_at dksJ13_appendChars_5 3 rfl rfl)
theorem dJ13_appendChars_120 : decode cJ13_appendChars 120 = .ok (.iload 4, 2) := dk_21 4 (dk_at dksJ13_appendChars_5 4 rfl rfl)
theorem dJ13_appendChars_122 : decode cJ13_appendChars 122 = .ok (.iload_n 3, 1) := dk_29 (dk_at dksJ13_appendChars_5 6 rfl rfl)
theorem dJ13_appendChars_123 : decode cJ13_appendChars 123 = .ok (.iadd, 1) := dk_96 (dk_at dksJ13_appendChars_5 7 rfl rfl)
theorem dJ13_appendChars_124 : decode cJ13_appendChars 124 = .ok (.iload_n 2, 1) := dk_28 (dk_at dksJ13_appendChars_5 8 rfl rfl)
theorem dJ13_appendChars_125 : decode cJ13_appendChars 125 = .ok (.isub, 1) := dk_100 (dk_at dksJ13_appendChars_5 9 rfl rfl)
theorem dJ13_appendChars_126 : decode cJ13_appendChars 126 = .ok (.putfield 79, 3) := dk_181 0 79 (dk_at dksJ13_appendChars_5 10 rfl rfl)
theorem dJ13_appendChars_129 : decode cJ13_appendChars 129 = .ok (.return_, 1) := dk_177 (dk_at dksJ13_appendChars_5 13 rfl rfl)
abbrev iJ13_appendChars : xM := (yJ13_appendChars, cJ13_appendChars, 9, none, [])
theorem mJ13_appendChars : xOkM iJ13_appendChars := ⟨by decide +kernel, by decide, q785, q146⟩
abbrev cJ13_append_5 : ByteArray := prog_17_method_31_code
def yJ13_append_5 : MethodName := ⟨RJ13, "append", "(C)Ljava/lang/AbstractStringBuilder;"⟩
def dkwJ13_append_5_3 : List UInt8 := [181, 0, 79, 27, 184, 0, 197, 42, 176]
abbrev dktJ13_append_5_3 : List UInt8 := dkwJ13_append_5_3 ++ []
def dkwJ13_append_5_2 : List UInt8 := [182, 0, 83, 153, 0, 7, 42, 182, 0, 195, 42, 180, 0, 15, 42, 89, 180, 0, 79, 90, 4, 96]
abbrev dktJ13_append_5_2 : List UInt8 := dkwJ13_append_5_2 ++ dktJ13_append_5_3
def dkwJ13_append_5_1 : List UInt8 := [42, 180, 0, 15, 42, 89, 180, 0, 79, 90, 4, 96, 181, 0, 79, 27, 145, 84, 167, 0, 33, 42]
abbrev dktJ13_append_5_1 : List UInt8 := dkwJ13_append_5_1 ++ dktJ13_append_5_2
def dkwJ13_append_5_0 : List UInt8 := [42, 42, 180, 0, 79, 4, 96, 182, 0, 100, 42, 182, 0, 83, 153, 0, 31, 27, 184, 0, 191, 153, 0, 24]
abbrev dktJ13_append_5_0 : List UInt8 := dkwJ13_append_5_0 ++ dktJ13_append_5_1
theorem dksJ13_append_5_0 : cJ13_append_5.data.toList.drop 0 = dktJ13_append_5_0 := by decide +kernel
theorem dksJ13_append_5_1 : cJ13_append_5.data.toList.drop 24 = dktJ13_append_5_1 := dk_seg dksJ13_append_5_0 24 rfl rfl
theorem dksJ13_append_5_2 : cJ13_append_5.data.toList.drop 46 = dktJ13_append_5_2 := dk_seg dksJ13_append_5_1 22 rfl rfl
theorem dksJ13_append_5_3 : cJ13_append_5.data.toList.drop 68 = dktJ13_append_5_3 := dk_seg dksJ13_append_5_2 22 rfl rfl
theorem dJ13_append_5_0 : decode cJ13_append_5 0 = .ok (.aload_n 0, 1) := dk_42 (dk_at dksJ13_append_5_0 0 rfl rfl)
theorem dJ13_append_5_1 : decode cJ13_append_5 1 = .ok (.aload_n 0, 1) := dk_42 (dk_at dksJ13_append_5_0 1 rfl rfl)
theorem dJ13_append_5_2 : decode cJ13_append_5 2 = .ok (.getfield 79, 3) := dk_180 0 79 (dk_at dksJ13_append_5_0 2 rfl rfl)
theorem dJ13_append_5_5 : decode cJ13_append_5 5 = .ok (.iconst 1, 1) := dk_4 (dk_at dksJ13_append_5_0 5 rfl rfl)
theorem dJ13_append_5_6 : decode cJ13_append_5 6 = .ok (.iadd, 1) := dk_96 (dk_at dksJ13_append_5_0 6 rfl rfl)
theorem dJ13_append_5_7 : decode cJ13_append_5 7 = .ok (.invokevirtual 100, 3) := dk_182 0 100 (dk_at dksJ13_append_5_0 7 rfl rfl)
theorem dJ13_append_5_10 : decode cJ13_append_5 10 = .ok (.aload_n 0, 1) := dk_42 (dk_at dksJ13_append_5_0 10 rfl rfl)
theorem dJ13_append_5_11 : decode cJ13_append_5 11 = .ok (.invokevirtual 83, 3) := dk_182 0 83 (dk_at dksJ13_append_5_0 11 rfl rfl)
theorem dJ13_append_5_14 : decode cJ13_append_5 14 = .ok (.ifCond .eq 31, 3) := dk_153 0 31 (dk_at dksJ13_append_5_0 14 rfl rfl)
theorem dJ13_append_5_17 : decode cJ13_append_5 17 = .ok (.iload_n 1, 1) := dk_27 (dk_at dksJ13_append_5_0 17 rfl rfl)
theorem dJ13_append_5_18 : decode cJ13_append_5 18 = .ok (.invokestatic 191, 3) := dk_184 0 191 (dk_at dksJ13_append_5_0 18 rfl rfl)
theorem dJ13_append_5_21 : decode cJ13_append_5 21 = .ok (.ifCond .eq 24, 3) := dk_153 0 24 (dk_at dksJ13_append_5_0 21 rfl rfl)
theorem dJ13_append_5_24 : decode cJ13_append_5 24 = .ok (.aload_n 0, 1) := dk_42 (dk_at dksJ13_append_5_1 0 rfl rfl)
theorem dJ13_append_5_25 : decode cJ13_append_5 25 = .ok (.getfield 15, 3) := dk_180 0 15 (dk_at dksJ13_append_5_1 1 rfl rfl)
theorem dJ13_append_5_28 : decode cJ13_append_5 28 = .ok (.aload_n 0, 1) := dk_42 (dk_at dksJ13_append_5_1 4 rfl rfl)
theorem dJ13_append_5_29 : decode cJ13_append_5 29 = .ok (.dup, 1) := dk_89 (dk_at dksJ13_append_5_1 5 rfl rfl)
theorem dJ13_append_5_30 : decode cJ13_append_5 30 = .ok (.getfield 79, 3) := dk_180 0 79 (dk_at dksJ13_append_5_1 6 rfl rfl)
theorem dJ13_append_5_33 : decode cJ13_append_5 33 = .ok (.dup_x1, 1) := dk_90 (dk_at dksJ13_append_5_1 9 rfl rfl)
theorem dJ13_append_5_34 : decode cJ13_append_5 34 = .ok (.iconst 1, 1) := dk_4 (dk_at dksJ13_append_5_1 10 rfl rfl)
theorem dJ13_append_5_35 : decode cJ13_append_5 35 = .ok (.iadd, 1) := dk_96 (dk_at dksJ13_append_5_1 11 rfl rfl)
theorem dJ13_append_5_36 : decode cJ13_append_5 36 = .ok (.putfield 79, 3) := dk_181 0 79 (dk_at dksJ13_append_5_1 12 rfl rfl)
theorem dJ13_append_5_39 : decode cJ13_append_5 39 = .ok (.iload_n 1, 1) := dk_27 (dk_at dksJ13_append_5_1 15 rfl rfl)
theorem dJ13_append_5_40 : decode cJ13_append_5 40 = .ok (.i2b, 1) := dk_145 (dk_at dksJ13_append_5_1 16 rfl rfl)
theorem dJ13_append_5_41 : decode cJ13_append_5 41 = .ok (.bastore, 1) := dk_84 (dk_at dksJ13_append_5_1 17 rfl rfl)
theorem dJ13_append_5_42 : decode cJ13_append_5 42 = .ok (.goto 33, 3) := dk_167 0 33 (dk_at dksJ13_append_5_1 18 rfl rfl)
theorem dJ13_append_5_45 : decode cJ13_append_5 45 = .ok (.aload_n 0, 1) := dk_42 (dk_at dksJ13_append_5_1 21 rfl rfl)
theorem dJ13_append_5_46 : decode cJ13_append_5 46 = .ok (.invokevirtual 83, 3) := dk_182 0 83 (dk_at dksJ13_append_5_2 0 rfl rfl)
theorem dJ13_append_5_49 : decode cJ13_append_5 49 = .ok (.ifCond .eq 7, 3) := dk_153 0 7 (dk_at dksJ13_append_5_2 3 rfl rfl)
theorem dJ13_append_5_52 : decode cJ13_append_5 52 = .ok (.aload_n 0, 1) := dk_42 (dk_at dksJ13_append_5_2 6 rfl rfl)
theorem dJ13_append_5_53 : decode cJ13_append_5 53 = .ok (.invokevirtual 195, 3) := dk_182 0 195 (dk_at dksJ13_append_5_2 7 rfl rfl)
theorem dJ13_append_5_56 : decode cJ13_append_5 56 = .ok (.aload_n 0, 1) := dk_42 (dk_at dksJ13_append_5_2 10 rfl rfl)
theorem dJ13_append_5_57 : decode cJ13_append_5 57 = .ok (.getfield 15, 3) := dk_180 0 15 (dk_at dksJ13_append_5_2 11 rfl rfl)
theorem dJ13_append_5_60 : decode cJ13_append_5 60 = .ok (.aload_n 0, 1) := dk_42 (dk_at dksJ13_append_5_2 14 rfl rfl)
theorem dJ13_append_5_61 : decode cJ13_append_5 61 = .ok (.dup, 1) := dk_89 (dk_at dksJ13_append_5_2 15 rfl rfl)
theorem dJ13_append_5_62 : decode cJ13_append_5 62 = .ok (.getfield 79, 3) := dk_180 0 79 (dk_at dksJ13_append_5_2 16 rfl rfl)
theorem dJ13_append_5_65 : decode cJ13_append_5 65 = .ok (.dup_x1, 1) := dk_90 (dk_at dksJ13_append_5_2 19 rfl rfl)
theorem dJ13_append_5_66 : decode cJ13_append_5 66 = .ok (.iconst 1, 1) := dk_4 (dk_at dksJ13_append_5_2 20 rfl rfl)
theorem dJ13_append_5_67 : decode cJ13_append_5 67 = .ok (.iadd, 1) := dk_96 (dk_at dksJ13_append_5_2 21 rfl rfl)
theorem dJ13_append_5_68 : decode cJ13_append_5 68 = .ok (.putfield 79, 3) := dk_181 0 79 (dk_at dksJ13_append_5_3 0 rfl rfl)
theorem dJ13_append_5_71 : decode cJ13_append_5 71 = .ok (.iload_n 1, 1) := dk_27 (dk_at dksJ13_append_5_3 3 rfl rfl)
theorem dJ13_append_5_72 : decode cJ13_append_5 72 = .ok (.invokestatic 197, 3) := dk_184 0 197 (dk_at dksJ13_append_5_3 4 rfl rfl)
theorem dJ13_append_5_75 : decode cJ13_append_5 75 = .ok (.aload_n 0, 1) := dk_42 (dk_at dksJ13_append_5_3 7 rfl rfl)
theorem dJ13_append_5_76 : decode cJ13_append_5 76 = .ok (.areturn, 1) := dk_176 (dk_at dksJ13_append_5_3 8 rfl rfl)
abbrev iJ13_append_5 : xM := (yJ13_append_5, cJ13_append_5, 2, (some (.object "java/lang/AbstractStringBuilder")), [])
theorem mJ13_append_5 : xOkM iJ13_append_5 := ⟨by decide +kernel, by decide, q818, q146⟩
abbrev cJ13_append_6 : ByteArray := prog_17_method_25_code
def yJ13_append_6 : MethodName := ⟨RJ13, "append", "(Ljava/lang/CharSequence;)Ljava/lang/AbstractStringBuilder;"⟩
def dkwJ13_append_6_2 : List UInt8 := [185, 0, 47, 1, 0, 182, 0, 223, 176]
abbrev dktJ13_append_6_2 : List UInt8 := dkwJ13_append_6_2 ++ []
def dkwJ13_append_6_1 : List UInt8 := [176, 43, 193, 0, 10, 153, 0, 12, 42, 43, 192, 0, 10, 182, 0, 212, 176, 42, 43, 3, 43]
abbrev dktJ13_append_6_1 : List UInt8 := dkwJ13_append_6_1 ++ dktJ13_append_6_2
def dkwJ13_append_6_0 : List UInt8 := [43, 199, 0, 8, 42, 182, 0, 204, 176, 43, 193, 0, 1, 153, 0, 12, 42, 43, 192, 0, 1, 182, 0, 43]
abbrev dktJ13_append_6_0 : List UInt8 := dkwJ13_append_6_0 ++ dktJ13_append_6_1
theorem dksJ13_append_6_0 : cJ13_append_6.data.toList.drop 0 = dktJ13_append_6_0 := by decide +kernel
theorem dksJ13_append_6_1 : cJ13_append_6.data.toList.drop 24 = dktJ13_append_6_1 := dk_seg dksJ13_append_6_0 24 rfl rfl
theorem dksJ13_append_6_2 : cJ13_append_6.data.toList.drop 45 = dktJ13_append_6_2 := dk_seg dksJ13_append_6_1 21 rfl rfl
theorem dJ13_append_6_0 : decode cJ13_append_6 0 = .ok (.aload_n 1, 1) := dk_43 (dk_at dksJ13_append_6_0 0 rfl rfl)
theorem dJ13_append_6_1 : decode cJ13_append_6 1 = .ok (.ifnonnull 8, 3) := dk_199 0 8 (dk_at dksJ13_append_6_0 1 rfl rfl)
theorem dJ13_append_6_4 : decode cJ13_append_6 4 = .ok (.aload_n 0, 1) := dk_42 (dk_at dksJ13_append_6_0 4 rfl rfl)
theorem dJ13_append_6_5 : decode cJ13_append_6 5 = .ok (.invokevirtual 204, 3) := dk_182 0 204 (dk_at dksJ13_append_6_0 5 rfl rfl)
theorem dJ13_append_6_8 : decode cJ13_append_6 8 = .ok (.areturn, 1) := dk_176 (dk_at dksJ13_append_6_0 8 rfl rfl)
theorem dJ13_append_6_9 : decode cJ13_append_6 9 = .ok (.aload_n 1, 1) := dk_43 (dk_at dksJ13_append_6_0 9 rfl rfl)
theorem dJ13_append_6_10 : decode cJ13_append_6 10 = .ok (.instanceof 1, 3) := dk_193 0 1 (dk_at dksJ13_append_6_0 10 rfl rfl)
theorem dJ13_append_6_13 : decode cJ13_append_6 13 = .ok (.ifCond .eq 12, 3) := dk_153 0 12 (dk_at dksJ13_append_6_0 13 rfl rfl)
theorem dJ13_append_6_16 : decode cJ13_append_6 16 = .ok (.aload_n 0, 1) := dk_42 (dk_at dksJ13_append_6_0 16 rfl rfl)
theorem dJ13_append_6_17 : decode cJ13_append_6 17 = .ok (.aload_n 1, 1) := dk_43 (dk_at dksJ13_append_6_0 17 rfl rfl)
theorem dJ13_append_6_18 : decode cJ13_append_6 18 = .ok (.checkcast 1, 3) := dk_192 0 1 (dk_at dksJ13_append_6_0 18 rfl rfl)
theorem dJ13_append_6_21 : decode cJ13_append_6 21 = .ok (.invokevirtual 43, 3) := dk_182 0 43 (dk_at dksJ13_append_6_0 21 rfl rfl)
theorem dJ13_append_6_24 : decode cJ13_append_6 24 = .ok (.areturn, 1) := dk_176 (dk_at dksJ13_append_6_1 0 rfl rfl)
theorem dJ13_append_6_25 : decode cJ13_append_6 25 = .ok (.aload_n 1, 1) := dk_43 (dk_at dksJ13_append_6_1 1 rfl rfl)
theorem dJ13_append_6_26 : decode cJ13_append_6 26 = .ok (.instanceof 10, 3) := dk_193 0 10 (dk_at dksJ13_append_6_1 2 rfl rfl)
theorem dJ13_append_6_29 : decode cJ13_append_6 29 = .ok (.ifCond .eq 12, 3) := dk_153 0 12 (dk_at dksJ13_append_6_1 5 rfl rfl)
theorem dJ13_append_6_32 : decode cJ13_append_6 32 = .ok (.aload_n 0, 1) := dk_42 (dk_at dksJ13_append_6_1 8 rfl rfl)
theorem dJ13_append_6_33 : decode cJ13_append_6 33 = .ok (.aload_n 1, 1) := dk_43 (dk_at dksJ13_append_6_1 9 rfl rfl)
theorem dJ13_append_6_34 : decode cJ13_append_6 34 = .ok (.checkcast 10, 3) := dk_192 0 10 (dk_at dksJ13_append_6_1 10 rfl rfl)
theorem dJ13_append_6_37 : decode cJ13_append_6 37 = .ok (.invokevirtual 212, 3) := dk_182 0 212 (dk_at dksJ13_append_6_1 13 rfl rfl)
theorem dJ13_append_6_40 : decode cJ13_append_6 40 = .ok (.areturn, 1) := dk_176 (dk_at dksJ13_append_6_1 16 rfl rfl)
theorem dJ13_append_6_41 : decode cJ13_append_6 41 = .ok (.aload_n 0, 1) := dk_42 (dk_at dksJ13_append_6_1 17 rfl rfl)
theorem dJ13_append_6_42 : decode cJ13_append_6 42 = .ok (.aload_n 1, 1) := dk_43 (dk_at dksJ13_append_6_1 18 rfl rfl)
theorem dJ13_append_6_43 : decode cJ13_append_6 43 = .ok (.iconst 0, 1) := dk_3 (dk_at dksJ13_append_6_1 19 rfl rfl)
theorem dJ13_append_6_44 : decode cJ13_append_6 44 = .ok (.aload_n 1, 1) := dk_43 (dk_at dksJ13_append_6_1 20 rfl rfl)
theorem dJ13_append_6_45 : decode cJ13_append_6 45 = .ok (.invokeinterface 47 1, 5) := by decide +kernel
theorem dJ13_append_6_50 : decode cJ13_append_6 50 = .ok (.invokevirtual 223, 3) := dk_182 0 223 (dk_at dksJ13_append_6_2 5 rfl rfl)
theorem dJ13_append_6_53 : decode cJ13_append_6 53 = .ok (.areturn, 1) := dk_176 (dk_at dksJ13_append_6_2 8 rfl rfl)
abbrev iJ13_append_6 : xM := (yJ13_append_6, cJ13_append_6, 2, (some (.object "java/lang/AbstractStringBuilder")), [])
theorem mJ13_append_6 : xOkM iJ13_append_6 := ⟨by decide +kernel, by decide, q847, q146⟩
abbrev cJ13_append_7 : ByteArray := prog_17_method_24_code
def yJ13_append_7 : MethodName := ⟨RJ13, "append", "(Ljava/lang/AbstractStringBuilder;)Ljava/lang/AbstractStringBuilder;"⟩
def dkwJ13_append_7_2 : List UInt8 := [180, 0, 79, 28, 96, 181, 0, 79, 42, 89, 180, 0, 73, 43, 180, 0, 73, 128, 181, 0, 73, 42, 176]
abbrev dktJ13_append_7_2 : List UInt8 := dkwJ13_append_7_2 ++ []
def dkwJ13_append_7_1 : List UInt8 := [42, 43, 182, 0, 215, 43, 42, 180, 0, 15, 42, 180, 0, 79, 42, 180, 0, 22, 182, 0, 219, 42, 89]
abbrev dktJ13_append_7_1 : List UInt8 := dkwJ13_append_7_1 ++ dktJ13_append_7_2
def dkwJ13_append_7_0 : List UInt8 := [43, 199, 0, 8, 42, 182, 0, 204, 176, 43, 182, 0, 160, 61, 42, 42, 180, 0, 79, 28, 96, 182, 0, 100]
abbrev dktJ13_append_7_0 : List UInt8 := dkwJ13_append_7_0 ++ dktJ13_append_7_1
theorem dksJ13_append_7_0 : cJ13_append_7.data.toList.drop 0 = dktJ13_append_7_0 := by decide +kernel
theorem dksJ13_append_7_1 : cJ13_append_7.data.toList.drop 24 = dktJ13_append_7_1 := dk_seg dksJ13_append_7_0 24 rfl rfl
theorem dksJ13_append_7_2 : cJ13_append_7.data.toList.drop 47 = dktJ13_append_7_2 := dk_seg dksJ13_append_7_1 23 rfl rfl
theorem dJ13_append_7_0 : decode cJ13_append_7 0 = .ok (.aload_n 1, 1) := dk_43 (dk_at dksJ13_append_7_0 0 rfl rfl)
theorem dJ13_append_7_1 : decode cJ13_append_7 1 = .ok (.ifnonnull 8, 3) := dk_199 0 8 (dk_at dksJ13_append_7_0 1 rfl rfl)
theorem dJ13_append_7_4 : decode cJ13_append_7 4 = .ok (.aload_n 0, 1) := dk_42 (dk_at dksJ13_append_7_0 4 rfl rfl)
theorem dJ13_append_7_5 : decode cJ13_append_7 5 = .ok (.invokevirtual 204, 3) := dk_182 0 204 (dk_at dksJ13_append_7_0 5 rfl rfl)
theorem dJ13_append_7_8 : decode cJ13_append_7 8 = .ok (.areturn, 1) := dk_176 (dk_at dksJ13_append_7_0 8 rfl rfl)
theorem dJ13_append_7_9 : decode cJ13_append_7 9 = .ok (.aload_n 1, 1) := dk_43 (dk_at dksJ13_append_7_0 9 rfl rfl)
theorem dJ13_append_7_10 : decode cJ13_append_7 10 = .ok (.invokevirtual 160, 3) := dk_182 0 160 (dk_at dksJ13_append_7_0 10 rfl rfl)
theorem dJ13_append_7_13 : decode cJ13_append_7 13 = .ok (.istore_n 2, 1) := dk_61 (dk_at dksJ13_append_7_0 13 rfl rfl)
theorem dJ13_append_7_14 : decode cJ13_append_7 14 = .ok (.aload_n 0, 1) := dk_42 (dk_at dksJ13_append_7_0 14 rfl rfl)
theorem dJ13_append_7_15 : decode cJ13_append_7 15 = .ok (.aload_n 0, 1) := dk_42 (dk_at dksJ13_append_7_0 15 rfl rfl)
theorem dJ13_append_7_16 : decode cJ13_append_7 16 = .ok (.getfield 79, 3) := dk_180 0 79 (dk_at dksJ13_append_7_0 16 rfl rfl)
theorem dJ13_append_7_19 : decode cJ13_append_7 19 = .ok (.iload_n 2, 1) := dk_28 (dk_at dksJ13_append_7_0 19 rfl rfl)
theorem dJ13_append_7_20 : decode cJ13_append_7 20 = .ok (.iadd, 1) := dk_96 (dk_at dksJ13_append_7_0 20 rfl rfl)
theorem dJ13_append_7_21 : decode cJ13_append_7 21 = .ok (.invokevirtual 100, 3) := dk_182 0 100 (dk_at dksJ13_append_7_0 21 rfl rfl)
theorem dJ13_append_7_24 : decode cJ13_append_7 24 = .ok (.aload_n 0, 1) := dk_42 (dk_at dksJ13_append_7_1 0 rfl rfl)
theorem dJ13_append_7_25 : decode cJ13_append_7 25 = .ok (.aload_n 1, 1) := dk_43 (dk_at dksJ13_append_7_1 1 rfl rfl)
theorem dJ13_append_7_26 : decode cJ13_append_7 26 = .ok (.invokevirtual 215, 3) := dk_182 0 215 (dk_at dksJ13_append_7_1 2 rfl rfl)
theorem dJ13_append_7_29 : decode cJ13_append_7 29 = .ok (.aload_n 1, 1) := dk_43 (dk_at dksJ13_append_7_1 5 rfl rfl)
theorem dJ13_append_7_30 : decode cJ13_append_7 30 = .ok (.aload_n 0, 1) := dk_42 (dk_at dksJ13_append_7_1 6 rfl rfl)
theorem dJ13_append_7_31 : decode cJ13_append_7 31 = .ok (.getfield 15, 3) := dk_180 0 15 (dk_at dksJ13_append_7_1 7 rfl rfl)
theorem dJ13_append_7_34 : decode cJ13_append_7 34 = .ok (.aload_n 0, 1) := dk_42 (dk_at dksJ13_append_7_1 10 rfl rfl)
theorem dJ13_append_7_35 : decode cJ13_append_7 35 = .ok (.getfield 79, 3) := dk_180 0 79 (dk_at dksJ13_append_7_1 11 rfl rfl)
theorem dJ13_append_7_38 : decode cJ13_append_7 38 = .ok (.aload_n 0, 1) := dk_42 (dk_at dksJ13_append_7_1 14 rfl rfl)
theorem dJ13_append_7_39 : decode cJ13_append_7 39 = .ok (.getfield 22, 3) := dk_180 0 22 (dk_at dksJ13_append_7_1 15 rfl rfl)
theorem dJ13_append_7_42 : decode cJ13_append_7 42 = .ok (.invokevirtual 219, 3) := dk_182 0 219 (dk_at dksJ13_append_7_1 18 rfl rfl)
theorem dJ13_append_7_45 : decode cJ13_append_7 45 = .ok (.aload_n 0, 1) := dk_42 (dk_at dksJ13_append_7_1 21 rfl rfl)
theorem dJ13_append_7_46 : decode cJ13_append_7 46 = .ok (.dup, 1) := dk_89 (dk_at dksJ13_append_7_1 22 rfl rfl)
theorem dJ13_append_7_47 : decode cJ13_append_7 47 = .ok (.getfield 79, 3) := dk_180 0 79 (dk_at dksJ13_append_7_2 0 rfl rfl)
theorem dJ13_append_7_50 : decode cJ13_append_7 50 = .ok (.iload_n 2, 1) := dk_28 (dk_at dksJ13_append_7_2 3 rfl rfl)
theorem dJ13_append_7_51 : decode cJ13_append_7 51 = .ok (.iadd, 1) := dk_96 (dk_at dksJ13_append_7_2 4 rfl rfl)
theorem dJ13_append_7_52 : decode cJ13_append_7 52 = .ok (.putfield 79, 3) := dk_181 0 79 (dk_at dksJ13_append_7_2 5 rfl rfl)
theorem dJ13_append_7_55 : decode cJ13_append_7 55 = .ok (.aload_n 0, 1) := dk_42 (dk_at dksJ13_append_7_2 8 rfl rfl)
theorem dJ13_append_7_56 : decode cJ13_append_7 56 = .ok (.dup, 1) := dk_89 (dk_at dksJ13_append_7_2 9 rfl rfl)
theorem dJ13_append_7_57 : decode cJ13_append_7 57 = .ok (.getfield 73, 3) := dk_180 0 73 (dk_at dksJ13_append_7_2 10 rfl rfl)
theorem dJ13_append_7_60 : decode cJ13_append_7 60 = .ok (.aload_n 1, 1) := dk_43 (dk_at dksJ13_append_7_2 13 rfl rfl)
theorem dJ13_append_7_61 : decode cJ13_append_7 61 = .ok (.getfield 73, 3) := dk_180 0 73 (dk_at dksJ13_append_7_2 14 rfl rfl)
theorem dJ13_append_7_64 : decode cJ13_append_7 64 = .ok (.ior, 1) := dk_128 (dk_at dksJ13_append_7_2 17 rfl rfl)
theorem dJ13_append_7_65 : decode cJ13_append_7 65 = .ok (.putfield 73, 3) := dk_181 0 73 (dk_at dksJ13_append_7_2 18 rfl rfl)
theorem dJ13_append_7_68 : decode cJ13_append_7 68 = .ok (.aload_n 0, 1) := dk_42 (dk_at dksJ13_append_7_2 21 rfl rfl)
theorem dJ13_append_7_69 : decode cJ13_append_7 69 = .ok (.areturn, 1) := dk_176 (dk_at dksJ13_append_7_2 22 rfl rfl)
abbrev iJ13_append_7 : xM := (yJ13_append_7, cJ13_append_7, 3, (some (.object "java/lang/AbstractStringBuilder")), [])
theorem mJ13_append_7 : xOkM iJ13_append_7 := ⟨by decide +kernel, by decide, q858, q146⟩
abbrev cJ13_inflateIfNeededFor_2 : ByteArray := prog_17_method_72_code
def yJ13_inflateIfNeededFor_2 : MethodName := ⟨RJ13, "inflateIfNeededFor", "(Ljava/lang/AbstractStringBuilder;)V"⟩
def dkwJ13_inflateIfNeededFor_2_0 : List UInt8 := [178, 0, 18, 153, 0, 18, 42, 180, 0, 22, 43, 182, 0, 70, 159, 0, 7, 42, 182, 0, 195, 177]
abbrev dktJ13_inflateIfNeededFor_2_0 : List UInt8 := dkwJ13_inflateIfNeededFor_2_0 ++ []
theorem dksJ13_inflateIfNeededFor_2_0 : cJ13_inflateIfNeededFor_2.data.toList.drop 0 = dktJ13_inflateIfNeededFor_2_0 := by decide +kernel
theorem dJ13_inflateIfNeededFor_2_0 : decode cJ13_inflateIfNeededFor_2 0 = .ok (.getstatic 18, 3) := dk_178 0 18 (dk_at dksJ13_inflateIfNeededFor_2_0 0 rfl rfl)
theorem dJ13_inflateIfNeededFor_2_3 : decode cJ13_inflateIfNeededFor_2 3 = .ok (.ifCond .eq 18, 3) := dk_153 0 18 (dk_at dksJ13_inflateIfNeededFor_2_0 3 rfl rfl)
theorem dJ13_inflateIfNeededFor_2_6 : decode cJ13_inflateIfNeededFor_2 6 = .ok (.aload_n 0, 1) := dk_42 (dk_at dksJ13_inflateIfNeededFor_2_0 6 rfl rfl)
theorem dJ13_inflateIfNeededFor_2_7 : decode cJ13_inflateIfNeededFor_2 7 = .ok (.getfield 22, 3) := dk_180 0 22 (dk_at dksJ13_inflateIfNeededFor_2_0 7 rfl rfl)
theorem dJ13_inflateIfNeededFor_2_10 : decode cJ13_inflateIfNeededFor_2 10 = .ok (.aload_n 1, 1) := dk_43 (dk_at dksJ13_inflateIfNeededFor_2_0 10 rfl rfl)
theorem dJ13_inflateIfNeededFor_2_11 : decode cJ13_inflateIfNeededFor_2 11 = .ok (.invokevirtual 70, 3) := dk_182 0 70 (dk_at dksJ13_inflateIfNeededFor_2_0 11 rfl rfl)
theorem dJ13_inflateIfNeededFor_2_14 : decode cJ13_inflateIfNeededFor_2 14 = .ok (.if_icmp .eq 7, 3) := dk_159 0 7 (dk_at dksJ13_inflateIfNeededFor_2_0 14 rfl rfl)
theorem dJ13_inflateIfNeededFor_2_17 : decode cJ13_inflateIfNeededFor_2 17 = .ok (.aload_n 0, 1) := dk_42 (dk_at dksJ13_inflateIfNeededFor_2_0 17 rfl rfl)
theorem dJ13_inflateIfNeededFor_2_18 : decode cJ13_inflateIfNeededFor_2 18 = .ok (.invokevirtual 195, 3) := dk_182 0 195 (dk_at dksJ13_inflateIfNeededFor_2_0 18 rfl rfl)
theorem dJ13_inflateIfNeededFor_2_21 : decode cJ13_inflateIfNeededFor_2 21 = .ok (.return_, 1) := dk_177 (dk_at dksJ13_inflateIfNeededFor_2_0 21 rfl rfl)
abbrev iJ13_inflateIfNeededFor_2 : xM := (yJ13_inflateIfNeededFor_2, cJ13_inflateIfNeededFor_2, 2, none, [])
theorem mJ13_inflateIfNeededFor_2 : xOkM iJ13_inflateIfNeededFor_2 := ⟨by decide +kernel, by decide, q863, q146⟩
abbrev cJ13_getCoder : ByteArray := prog_17_method_67_code
def yJ13_getCoder : MethodName := ⟨RJ13, "getCoder", "()B"⟩
def dkwJ13_getCoder_0 : List UInt8 := [178, 0, 18, 153, 0, 10, 42, 180, 0, 22, 167, 0, 4, 4, 172]
abbrev dktJ13_getCoder_0 : List UInt8 := dkwJ13_getCoder_0 ++ []
theorem dksJ13_getCoder_0 : cJ13_getCoder.data.toList.drop 0 = dktJ13_getCoder_0 := by decide +kernel
theorem dJ13_getCoder_0 : decode cJ13_getCoder 0 = .ok (.getstatic 18, 3) := dk_178 0 18 (dk_at dksJ13_getCoder_0 0 rfl rfl)
theorem dJ13_getCoder_3 : decode cJ13_getCoder 3 = .ok (.ifCond .eq 10, 3) := dk_153 0 10 (dk_at dksJ13_getCoder_0 3 rfl rfl)
theorem dJ13_getCoder_6 : decode cJ13_getCoder 6 = .ok (.aload_n 0, 1) := dk_42 (dk_at dksJ13_getCoder_0 6 rfl rfl)
theorem dJ13_getCoder_7 : decode cJ13_getCoder 7 = .ok (.getfield 22, 3) := dk_180 0 22 (dk_at dksJ13_getCoder_0 7 rfl rfl)
theorem dJ13_getCoder_10 : decode cJ13_getCoder 10 = .ok (.goto 4, 3) := dk_167 0 4 (dk_at dksJ13_getCoder_0 10 rfl rfl)
theorem dJ13_getCoder_13 : decode cJ13_getCoder 13 = .ok (.iconst 1, 1) := dk_4 (dk_at dksJ13_getCoder_0 13 rfl rfl)
theorem dJ13_getCoder_14 : decode cJ13_getCoder 14 = .ok (.ireturn, 1) := dk_172 (dk_at dksJ13_getCoder_0 14 rfl rfl)
abbrev iJ13_getCoder : xM := (yJ13_getCoder, cJ13_getCoder, 1, (some .byte), [])
theorem mJ13_getCoder : xOkM iJ13_getCoder := ⟨by decide +kernel, by decide, q868, q146⟩
abbrev cJ13_getBytes : ByteArray := prog_17_method_65_code
def yJ13_getBytes : MethodName := ⟨RJ13, "getBytes", "([BIB)V"⟩
def dkwJ13_getBytes_1 : List UInt8 := [184, 1, 53, 167, 0, 17, 42, 180, 0, 15, 3, 43, 28, 42, 180, 0, 79, 184, 0, 125, 177]
abbrev dktJ13_getBytes_1 : List UInt8 := dkwJ13_getBytes_1 ++ []
def dkwJ13_getBytes_0 : List UInt8 := [42, 180, 0, 22, 29, 160, 0, 24, 42, 180, 0, 15, 3, 43, 28, 29, 120, 42, 180, 0, 79, 29, 120]
abbrev dktJ13_getBytes_0 : List UInt8 := dkwJ13_getBytes_0 ++ dktJ13_getBytes_1
theorem dksJ13_getBytes_0 : cJ13_getBytes.data.toList.drop 0 = dktJ13_getBytes_0 := by decide +kernel
theorem dksJ13_getBytes_1 : cJ13_getBytes.data.toList.drop 23 = dktJ13_getBytes_1 := dk_seg dksJ13_getBytes_0 23 rfl rfl
theorem dJ13_getBytes_0 : decode cJ13_getBytes 0 = .ok (.aload_n 0, 1) := dk_42 (dk_at dksJ13_getBytes_0 0 rfl rfl)
theorem dJ13_getBytes_1 : decode cJ13_getBytes 1 = .ok (.getfield 22, 3) := dk_180 0 22 (dk_at dksJ13_getBytes_0 1 rfl rfl)
theorem dJ13_getBytes_4 : decode cJ13_getBytes 4 = .ok (.iload_n 3, 1) := dk_29 (dk_at dksJ13_getBytes_0 4 rfl rfl)
theorem dJ13_getBytes_5 : decode cJ13_getBytes 5 = .ok (.if_icmp .ne 24, 3) := dk_160 0 24 (dk_at dksJ13_getBytes_0 5 rfl rfl)
theorem dJ13_getBytes_8 : decode cJ13_getBytes 8 = .ok (.aload_n 0, 1) := dk_42 (dk_at dksJ13_getBytes_0 8 rfl rfl)
theorem dJ13_getBytes_9 : decode cJ13_getBytes 9 = .ok (.getfield 15, 3) := dk_180 0 15 (dk_at dksJ13_getBytes_0 9 rfl rfl)
theorem dJ13_getBytes_12 : decode cJ13_getBytes 12 = .ok (.iconst 0, 1) := dk_3 (dk_at dksJ13_getBytes_0 12 rfl rfl)
theorem dJ13_getBytes_13 : decode cJ13_getBytes 13 = .ok (.aload_n 1, 1) := dk_43 (dk_at dksJ13_getBytes_0 13 rfl rfl)
theorem dJ13_getBytes_14 : decode cJ13_getBytes 14 = .ok (.iload_n 2, 1) := dk_28 (dk_at dksJ13_getBytes_0 14 rfl rfl)
theorem dJ13_getBytes_15 : decode cJ13_getBytes 15 = .ok (.iload_n 3, 1) := dk_29 (dk_at dksJ13_getBytes_0 15 rfl rfl)
theorem dJ13_getBytes_16 : decode cJ13_getBytes 16 = .ok (.ishl, 1) := dk_120 (dk_at dksJ13_getBytes_0 16 rfl rfl)
theorem dJ13_getBytes_17 : decode cJ13_getBytes 17 = .ok (.aload_n 0, 1) := dk_42 (dk_at dksJ13_getBytes_0 17 rfl rfl)
theorem dJ13_getBytes_18 : decode cJ13_getBytes 18 = .ok (.getfield 79, 3) := dk_180 0 79 (dk_at dksJ13_getBytes_0 18 rfl rfl)
theorem dJ13_getBytes_21 : decode cJ13_getBytes 21 = .ok (.iload_n 3, 1) := dk_29 (dk_at dksJ13_getBytes_0 21 rfl rfl)
theorem dJ13_getBytes_22 : decode cJ13_getBytes 22 = .ok (.ishl, 1) := dk_120 (dk_at dksJ13_getBytes_0 22 rfl rfl)
theorem dJ13_getBytes_23 : decode cJ13_getBytes 23 = .ok (.invokestatic 309, 3) := dk_184 1 53 (dk_at dksJ13_getBytes_1 0 rfl rfl)
theorem dJ13_getBytes_26 : decode cJ13_getBytes 26 = .ok (.goto 17, 3) := dk_167 0 17 (dk_at dksJ13_getBytes_1 3 rfl rfl)
theorem dJ13_getBytes_29 : decode cJ13_getBytes 29 = .ok (.aload_n 0, 1) := dk_42 (dk_at dksJ13_getBytes_1 6 rfl rfl)
theorem dJ13_getBytes_30 : decode cJ13_getBytes 30 = .ok (.getfield 15, 3) := dk_180 0 15 (dk_at dksJ13_getBytes_1 7 rfl rfl)
theorem dJ13_getBytes_33 : decode cJ13_getBytes 33 = .ok (.iconst 0, 1) := dk_3 (dk_at dksJ13_getBytes_1 10 rfl rfl)
theorem dJ13_getBytes_34 : decode cJ13_getBytes 34 = .ok (.aload_n 1, 1) := dk_43 (dk_at dksJ13_getBytes_1 11 rfl rfl)
theorem dJ13_getBytes_35 : decode cJ13_getBytes 35 = .ok (.iload_n 2, 1) := dk_28 (dk_at dksJ13_getBytes_1 12 rfl rfl)
theorem dJ13_getBytes_36 : decode cJ13_getBytes 36 = .ok (.aload_n 0, 1) := dk_42 (dk_at dksJ13_getBytes_1 13 rfl rfl)
theorem dJ13_getBytes_37 : decode cJ13_getBytes 37 = .ok (.getfield 79, 3) := dk_180 0 79 (dk_at dksJ13_getBytes_1 14 rfl rfl)
theorem dJ13_getBytes_40 : decode cJ13_getBytes 40 = .ok (.invokestatic 125, 3) := dk_184 0 125 (dk_at dksJ13_getBytes_1 17 rfl rfl)
theorem dJ13_getBytes_43 : decode cJ13_getBytes 43 = .ok (.return_, 1) := dk_177 (dk_at dksJ13_getBytes_1 20 rfl rfl)
abbrev iJ13_getBytes : xM := (yJ13_getBytes, cJ13_getBytes, 4, none, [])
theorem mJ13_getBytes : xOkM iJ13_getBytes := ⟨by decide +kernel, by decide, q873, q146⟩
abbrev cJ13_append_8 : ByteArray := prog_17_method_27_code
def yJ13_append_8 : MethodName := ⟨RJ13, "append", "(Ljava/lang/CharSequence;II)Ljava/lang/AbstractStringBuilder;"⟩
def dkwJ13_append_8_2 : List UInt8 := [192, 0, 1, 28, 29, 182, 0, 232, 167, 0, 10, 42, 43, 28, 29, 182, 0, 236, 42, 176]
abbrev dktJ13_append_8_2 : List UInt8 := dkwJ13_append_8_2 ++ []
def dkwJ13_append_8_1 : List UInt8 := [100, 54, 4, 42, 42, 180, 0, 79, 21, 4, 96, 182, 0, 100, 43, 193, 0, 1, 153, 0, 16, 42, 43]
abbrev dktJ13_append_8_1 : List UInt8 := dkwJ13_append_8_1 ++ dktJ13_append_8_2
def dkwJ13_append_8_0 : List UInt8 := [43, 199, 0, 6, 18, 230, 76, 28, 29, 43, 185, 0, 47, 1, 0, 178, 0, 183, 184, 0, 161, 87, 29, 28]
abbrev dktJ13_append_8_0 : List UInt8 := dkwJ13_append_8_0 ++ dktJ13_append_8_1
theorem dksJ13_append_8_0 : cJ13_append_8.data.toList.drop 0 = dktJ13_append_8_0 := by decide +kernel
theorem dksJ13_append_8_1 : cJ13_append_8.data.toList.drop 24 = dktJ13_append_8_1 := dk_seg dksJ13_append_8_0 24 rfl rfl
theorem dksJ13_append_8_2 : cJ13_append_8.data.toList.drop 47 = dktJ13_append_8_2 := dk_seg dksJ13_append_8_1 23 rfl rfl
theorem dJ13_append_8_0 : decode cJ13_append_8 0 = .ok (.aload_n 1, 1) := dk_43 (dk_at dksJ13_append_8_0 0 rfl rfl)
theorem dJ13_append_8_1 : decode cJ13_append_8 1 = .ok (.ifnonnull 6, 3) := dk_199 0 6 (dk_at dksJ13_append_8_0 1 rfl rfl)
theorem dJ13_append_8_4 : decode cJ13_append_8 4 = .ok (.ldc 230, 2) := dk_18 230 (dk_at dksJ13_append_8_0 4 rfl rfl)
theorem dJ13_append_8_6 : decode cJ13_append_8 6 = .ok (.astore_n 1, 1) := dk_76 (dk_at dksJ13_append_8_0 6 rfl rfl)
theorem dJ13_append_8_7 : decode cJ13_append_8 7 = .ok (.iload_n 2, 1) := dk_28 (dk_at dksJ13_append_8_0 7 rfl rfl)
theorem dJ13_append_8_8 : decode cJ13_append_8 8 = .ok (.iload_n 3, 1) := dk_29 (dk_at dksJ13_append_8_0 8 rfl rfl)
theorem dJ13_append_8_9 : decode cJ13_append_8 9 = .ok (.aload_n 1, 1) := dk_43 (dk_at dksJ13_append_8_0 9 rfl rfl)
theorem dJ13_append_8_10 : decode cJ13_append_8 10 = .ok (.invokeinterface 47 1, 5) := by decide +kernel
theorem dJ13_append_8_15 : decode cJ13_append_8 15 = .ok (.getstatic 183, 3) := dk_178 0 183 (dk_at dksJ13_append_8_0 15 rfl rfl)
theorem dJ13_append_8_18 : decode cJ13_append_8 18 = .ok (.invokestatic 161, 3) := dk_184 0 161 (dk_at dksJ13_append_8_0 18 rfl rfl)
theorem dJ13_append_8_21 : decode cJ13_append_8 21 = .ok (.pop, 1) := dk_87 (dk_at dksJ13_append_8_0 21 rfl rfl)
theorem dJ13_append_8_22 : decode cJ13_append_8 22 = .ok (.iload_n 3, 1) := dk_29 (dk_at dksJ13_append_8_0 22 rfl rfl)
theorem dJ13_append_8_23 : decode cJ13_append_8 23 = .ok (.iload_n 2, 1) := dk_28 (dk_at dksJ13_append_8_0 23 rfl rfl)
theorem dJ13_append_8_24 : decode cJ13_append_8 24 = .ok (.isub, 1) := dk_100 (dk_at dksJ13_append_8_1 0 rfl rfl)
theorem dJ13_append_8_25 : decode cJ13_append_8 25 = .ok (.istore 4, 2) := dk_54 4 (dk_at dksJ13_append_8_1 1 rfl rfl)
theorem dJ13_append_8_27 : decode cJ13_append_8 27 = .ok (.aload_n 0, 1) := dk_42 (dk_at dksJ13_append_8_1 3 rfl rfl)
theorem dJ13_append_8_28 : decode cJ13_append_8 28 = .ok (.aload_n 0, 1) := dk_42 (dk_at dksJ13_append_8_1 4 rfl rfl)
theorem dJ13_append_8_29 : decode cJ13_append_8 29 = .ok (.getfield 79, 3) := dk_180 0 79 (dk_at dksJ13_append_8_1 5 rfl rfl)
theorem dJ13_append_8_32 : decode cJ13_append_8 32 = .ok (.iload 4, 2) := dk_21 4 (dk_at dksJ13_append_8_1 8 rfl rfl)
theorem dJ13_append_8_34 : decode cJ13_append_8 34 = .ok (.iadd, 1) := dk_96 (dk_at dksJ13_append_8_1 10 rfl rfl)
theorem dJ13_append_8_35 : decode cJ13_append_8 35 = .ok (.invokevirtual 100, 3) := dk_182 0 100 (dk_at dksJ13_append_8_1 11 rfl rfl)
theorem dJ13_append_8_38 : decode cJ13_append_8 38 = .ok (.aload_n 1, 1) := dk_43 (dk_at dksJ13_append_8_1 14 rfl rfl)
theorem dJ13_append_8_39 : decode cJ13_append_8 39 = .ok (.instanceof 1, 3) := dk_193 0 1 (dk_at dksJ13_append_8_1 15 rfl rfl)
theorem dJ13_append_8_42 : decode cJ13_append_8 42 = .ok (.ifCond .eq 16, 3) := dk_153 0 16 (dk_at dksJ13_append_8_1 18 rfl rfl)
theorem dJ13_append_8_45 : decode cJ13_append_8 45 = .ok (.aload_n 0, 1) := dk_42 (dk_at dksJ13_append_8_1 21 rfl rfl)
theorem dJ13_append_8_46 : decode cJ13_append_8 46 = .ok (.aload_n 1, 1) := dk_43 (dk_at dksJ13_append_8_1 22 rfl rfl)
theorem dJ13_append_8_47 : decode cJ13_append_8 47 = .ok (.checkcast 1, 3) := dk_192 0 1 (dk_at dksJ13_append_8_2 0 rfl rfl)
theorem dJ13_append_8_50 : decode cJ13_append_8 50 = .ok (.iload_n 2, 1) := dk_28 (dk_at dksJ13_append_8_2 3 rfl rfl)
theorem dJ13_append_8_51 : decode cJ13_append_8 51 = .ok (.iload_n 3, 1) := dk_29 (dk_at dksJ13_append_8_2 4 rfl rfl)
theorem dJ13_append_8_52 : decode cJ13_append_8 52 = .ok (.invokevirtual 232, 3) := dk_182 0 232 (dk_at dksJ13_append_8_2 5 rfl rfl)
theorem dJ13_append_8_55 : decode cJ13_append_8 55 = .ok (.goto 10, 3) := dk_167 0 10 (dk_at dksJ13_append_8_2 8 rfl rfl)
theorem dJ13_append_8_58 : decode cJ13_append_8 58 = .ok (.aload_n 0, 1) := dk_42 (dk_at dksJ13_append_8_2 11 rfl rfl)
theorem dJ13_append_8_59 : decode cJ13_append_8 59 = .ok (.aload_n 1, 1) := dk_43 (dk_at dksJ13_append_8_2 12 rfl rfl)
theorem dJ13_append_8_60 : decode cJ13_append_8 60 = .ok (.iload_n 2, 1) := dk_28 (dk_at dksJ13_append_8_2 13 rfl rfl)
theorem dJ13_append_8_61 : decode cJ13_append_8 61 = .ok (.iload_n 3, 1) := dk_29 (dk_at dksJ13_append_8_2 14 rfl rfl)
theorem dJ13_append_8_62 : decode cJ13_append_8 62 = .ok (.invokevirtual 236, 3) := dk_182 0 236 (dk_at dksJ13_append_8_2 15 rfl rfl)
theorem dJ13_append_8_65 : decode cJ13_append_8 65 = .ok (.aload_n 0, 1) := dk_42 (dk_at dksJ13_append_8_2 18 rfl rfl)
theorem dJ13_append_8_66 : decode cJ13_append_8 66 = .ok (.areturn, 1) := dk_176 (dk_at dksJ13_append_8_2 19 rfl rfl)
abbrev iJ13_append_8 : xM := (yJ13_append_8, cJ13_append_8, 5, (some (.object "java/lang/AbstractStringBuilder")), [])
theorem mJ13_append_8 : xOkM iJ13_append_8 := ⟨by decide +kernel, by decide, q898, q146⟩
abbrev cJ13_appendChars_2 : ByteArray := prog_17_method_75_code
def yJ13_appendChars_2 : MethodName := ⟨RJ13, "appendChars", "(Ljava/lang/String;II)V"⟩
def dkwJ13_appendChars_2_8 : List UInt8 := [120, 184, 1, 53, 42, 89, 180, 0, 79, 29, 28, 100, 96, 181, 0, 79, 177]
abbrev dktJ13_appendChars_2_8 : List UInt8 := dkwJ13_appendChars_2_8 ++ []
def dkwJ13_appendChars_2_7 : List UInt8 := [167, 0, 28, 43, 182, 1, 145, 28, 4, 120, 42, 180, 0, 15, 42, 180, 0, 79, 4, 120, 29, 28, 100, 4]
abbrev dktJ13_appendChars_2_7 : List UInt8 := dkwJ13_appendChars_2_7 ++ dktJ13_appendChars_2_8
def dkwJ13_appendChars_2_6 : List UInt8 := [167, 0, 52, 43, 182, 1, 144, 153, 0, 20, 42, 180, 0, 15, 42, 180, 0, 79, 43, 28, 29, 184, 1, 138]
abbrev dktJ13_appendChars_2_6 : List UInt8 := dkwJ13_appendChars_2_6 ++ dktJ13_appendChars_2_7
def dkwJ13_appendChars_2_5 : List UInt8 := [120, 184, 1, 53, 42, 89, 180, 0, 79, 29, 21, 5, 100, 96, 181, 0, 79, 177, 132, 5, 1, 167, 255, 168]
abbrev dktJ13_appendChars_2_5 : List UInt8 := dkwJ13_appendChars_2_5 ++ dktJ13_appendChars_2_6
def dkwJ13_appendChars_2_4 : List UInt8 := [182, 0, 195, 43, 182, 1, 145, 21, 5, 4, 120, 42, 180, 0, 15, 21, 6, 4, 120, 29, 21, 5, 100, 4]
abbrev dktJ13_appendChars_2_4 : List UInt8 := dkwJ13_appendChars_2_4 ++ dktJ13_appendChars_2_5
def dkwJ13_appendChars_2_3 : List UInt8 := [153, 0, 17, 25, 4, 21, 6, 132, 6, 1, 21, 7, 145, 84, 167, 0, 52, 42, 21, 6, 181, 0, 79, 42]
abbrev dktJ13_appendChars_2_3 : List UInt8 := dkwJ13_appendChars_2_3 ++ dktJ13_appendChars_2_4
def dkwJ13_appendChars_2_2 : List UInt8 := [180, 0, 79, 54, 6, 21, 5, 29, 162, 0, 88, 43, 21, 5, 182, 1, 148, 54, 7, 21, 7, 184, 0, 191]
abbrev dktJ13_appendChars_2_2 : List UInt8 := dkwJ13_appendChars_2_2 ++ dktJ13_appendChars_2_3
def dkwJ13_appendChars_2_1 : List UInt8 := [180, 0, 79, 29, 28, 100, 184, 1, 53, 167, 0, 161, 42, 180, 0, 15, 58, 4, 28, 54, 5, 42]
abbrev dktJ13_appendChars_2_1 : List UInt8 := dkwJ13_appendChars_2_1 ++ dktJ13_appendChars_2_2
def dkwJ13_appendChars_2_0 : List UInt8 := [42, 182, 0, 83, 153, 0, 141, 43, 182, 1, 144, 153, 0, 25, 43, 182, 1, 145, 28, 42, 180, 0, 15, 42]
abbrev dktJ13_appendChars_2_0 : List UInt8 := dkwJ13_appendChars_2_0 ++ dktJ13_appendChars_2_1
theorem dksJ13_appendChars_2_0 : cJ13_appendChars_2.data.toList.drop 0 = dktJ13_appendChars_2_0 := by decide +kernel
theorem dksJ13_appendChars_2_1 : cJ13_appendChars_2.data.toList.drop 24 = dktJ13_appendChars_2_1 := dk_seg dksJ13_appendChars_2_0 24 rfl rfl
theorem dksJ13_appendChars_2_2 : cJ13_appendChars_2.data.toList.drop 46 = dktJ13_appendChars_2_2 := dk_seg dksJ13_appendChars_2_1 22 rfl rfl
theorem dksJ13_appendChars_2_3 : cJ13_appendChars_2.data.toList.drop 70 = dktJ13_appendChars_2_3 := dk_seg dksJ13_appendChars_2_2 24 rfl rfl
theorem dksJ13_appendChars_2_4 : cJ13_appendChars_2.data.toList.drop 94 = dktJ13_appendChars_2_4 := dk_seg dksJ13_appendChars_2_3 24 rfl rfl
theorem dksJ13_appendChars_2_5 : cJ13_appendChars_2.data.toList.drop 118 = dktJ13_appendChars_2_5 := dk_seg dksJ13_appendChars_2_4 24 rfl rfl
theorem dksJ13_appendChars_2_6 : cJ13_appendChars_2.data.toList.drop 142 = dktJ13_appendChars_2_6 := dk_seg dksJ13_appendChars_2_5 24 rfl rfl
theorem dksJ13_appendChars_2_7 : cJ13_appendChars_2.data.toList.drop 166 = dktJ13_appendChars_2_7 := dk_seg dksJ13_appendChars_2_6 24 rfl rfl
theorem dksJ13_appendChars_2_8 : cJ13_appendChars_2.data.toList.drop 190 = dktJ13_appendChars_2_8 := dk_seg dksJ13_appendChars_2_7 24 rfl rfl
theorem dJ13_appendChars_2_0 : decode cJ13_appendChars_2 0 = .ok (.aload_n 0, 1) := dk_42 (dk_at dksJ13_appendChars_2_0 0 rfl rfl)
theorem dJ13_appendChars_2_1 : decode cJ13_appendChars_2 1 = .ok (.invokevirtual 83, 3) := dk_182 0 83 (dk_at dksJ13_appendChars_2_0 1 rfl rfl)
theorem dJ13_appendChars_2_4 : decode cJ13_appendChars_2 4 = .ok (.ifCond .eq 141, 3) := dk_153 0 141 (dk_at dksJ13_appendChars_2_0 4 rfl rfl)
theorem dJ13_appendChars_2_7 : decode cJ13_appendChars_2 7 = .ok (.aload_n 1, 1) := dk_43 (dk_at dksJ13_appendChars_2_0 7 rfl rfl)
theorem dJ13_appendChars_2_8 : decode cJ13_appendChars_2 8 = .ok (.invokevirtual 400, 3) := dk_182 1 144 (dk_at dksJ13_appendChars_2_0 8 rfl rfl)
theorem dJ13_appendChars_2_11 : decode cJ13_appendChars_2 11 = .ok (.ifCond .eq 25, 3) := dk_153 0 25 (dk_at dksJ13_appendChars_2_0 11 rfl rfl)
theorem dJ13_appendChars_2_14 : decode cJ13_appendChars_2 14 = .ok (.aload_n 1, 1) := dk_43 (dk_at dksJ13_appendChars_2_0 14 rfl rfl)
theorem dJ13_appendChars_2_15 : decode cJ13_appendChars_2 15 = .ok (.invokevirtual 401, 3) := dk_182 1 145 (dk_at dksJ13_appendChars_2_0 15 rfl rfl)
theorem dJ13_appendChars_2_18 : decode cJ13_appendChars_2 18 = .ok (.iload_n 2, 1) := dk_28 (dk_at dksJ13_appendChars_2_0 18 rfl rfl)
theorem dJ13_appendChars_2_19 : decode cJ13_appendChars_2 19 = .ok (.aload_n 0, 1) := dk_42 (dk_at dksJ13_appendChars_2_0 19 rfl rfl)
theorem dJ13_appendChars_2_20 : decode cJ13_appendChars_2 20 = .ok (.getfield 15, 3) := dk_180 0 15 (dk_at dksJ13_appendChars_2_0 20 rfl rfl)
theorem dJ13_appendChars_2_23 : decode cJ13_appendChars_2 23 = .ok (.aload_n 0, 1) := dk_42 (dk_at dksJ13_appendChars_2_0 23 rfl rfl)
theorem dJ13_appendChars_2_24 : decode cJ13_appendChars_2 24 = .ok (.getfield 79, 3) := dk_180 0 79 (dk_at dksJ13_appendChars_2_1 0 rfl rfl)
theorem dJ13_appendChars_2_27 : decode cJ13_appendChars_2 27 = .ok (.iload_n 3, 1) := dk_29 (dk_at dksJ13_appendChars_2_1 3 rfl rfl)
theorem dJ13_appendChars_2_28 : decode cJ13_appendChars_2 28 = .ok (.iload_n 2, 1) := dk_28 (dk_at dksJ13_appendChars_2_1 4 rfl rfl)
theorem dJ13_appendChars_2_29 : decode cJ13_appendChars_2 29 = .ok (.isub, 1) := dk_100 (dk_at dksJ13_appendChars_2_1 5 rfl rfl)
theorem dJ13_appendChars_2_30 : decode cJ13_appendChars_2 30 = .ok (.invokestatic 309, 3) := dk_184 1 53 (dk_at dksJ13_appendChars_2_1 6 rfl rfl)
theorem dJ13_appendChars_2_33 : decode cJ13_appendChars_2 33 = .ok (.goto 161, 3) := dk_167 0 161 (dk_at dksJ13_appendChars_2_1 9 rfl rfl)
theorem dJ13_appendChars_2_36 : decode cJ13_appendChars_2 36 = .ok (.aload_n 0, 1) := dk_42 (dk_at dksJ13_appendChars_2_1 12 rfl rfl)
theorem dJ13_appendChars_2_37 : decode cJ13_appendChars_2 37 = .ok (.getfield 15, 3) := dk_180 0 15 (dk_at dksJ13_appendChars_2_1 13 rfl rfl)
theorem dJ13_appendChars_2_40 : decode cJ13_appendChars_2 40 = .ok (.astore 4, 2) := dk_58 4 (dk_at dksJ13_appendChars_2_1 16 rfl rfl)
theorem dJ13_appendChars_2_42 : decode cJ13_appendChars_2 42 = .ok (.iload_n 2, 1) := dk_28 (dk_at dksJ13_appendChars_2_1 18 rfl rfl)
theorem dJ13_appendChars_2_43 : decode cJ13_appendChars_2 43 = .ok (.istore 5, 2) := dk_54 5 (dk_at dksJ13_appendChars_2_1 19 rfl rfl)
theorem dJ13_appendChars_2_45 : decode cJ13_appendChars_2 45 = .ok (.aload_n 0, 1) := dk_42 (dk_at dksJ13_appendChars_2_1 21 rfl rfl)
theorem dJ13_appendChars_2_46 : decode cJ13_appendChars_2 46 = .ok (.getfield 79, 3) := dk_180 0 79 (dk_at dksJ13_appendChars_2_2 0 rfl rfl)
theorem dJ13_appendChars_2_49 : decode cJ13_appendChars_2 49 = .ok (.istore 6, 2) := dk_54 6 (dk_at dksJ13_appendChars_2_2 3 rfl rfl)
theorem dJ13_appendChars_2_51 : decode cJ13_appendChars_2 51 = .ok (.iload 5, 2) := dk_21 5 (dk_at dksJ13_appendChars_2_2 5 rfl rfl)
theorem dJ13_appendChars_2_53 : decode cJ13_appendChars_2 53 = .ok (.iload_n 3, 1) := dk_29 (dk_at dksJ13_appendChars_2_2 7 rfl rfl)
theorem dJ13_appendChars_2_54 : decode cJ13_appendChars_2 54 = .ok (.if_icmp .ge 88, 3) := dk_162 0 88 (dk_at dksJ13_appendChars_2_2 8 rfl rfl)
theorem dJ13_appendChars_2_57 : decode cJ13_appendChars_2 57 = .ok (.aload_n 1, 1) := dk_43 (dk_at dksJ13_appendChars_2_2 11 rfl rfl)
theorem dJ13_appendChars_2_58 : decode cJ13_appendChars_2 58 = .ok (.iload 5, 2) := dk_21 5 (dk_at dksJ13_appendChars_2_2 12 rfl rfl)
theorem dJ13_appendChars_2_60 : decode cJ13_appendChars_2 60 = .ok (.invokevirtual 404, 3) := dk_182 1 148 (dk_at dksJ13_appendChars_2_2 14 rfl rfl)
theorem dJ13_appendChars_2_63 : decode cJ13_appendChars_2 63 = .ok (.istore 7, 2) := dk_54 7 (dk_at dksJ13_appendChars_2_2 17 rfl rfl)
theorem dJ13_appendChars_2_65 : decode cJ13_appendChars_2 65 = .ok (.iload 7, 2) := dk_21 7 (dk_at dksJ13_appendChars_2_2 19 rfl rfl)
theorem dJ13_appendChars_2_67 : decode cJ13_appendChars_2 67 = .ok (.invokestatic 191, 3) := dk_184 0 191 (dk_at dksJ13_appendChars_2_2 21 rfl rfl)
theorem dJ13_appendChars_2_70 : decode cJ13_appendChars_2 70 = .ok (.ifCond .eq 17, 3) := dk_153 0 17 (dk_at dksJ13_appendChars_2_3 0 rfl rfl)
theorem dJ13_appendChars_2_73 : decode cJ13_appendChars_2 73 = .ok (.aload 4, 2) := dk_25 4 (dk_at dksJ13_appendChars_2_3 3 rfl rfl)
theorem dJ13_appendChars_2_75 : decode cJ13_appendChars_2 75 = .ok (.iload 6, 2) := dk_21 6 (dk_at dksJ13_appendChars_2_3 5 rfl rfl)
theorem dJ13_appendChars_2_77 : decode cJ13_appendChars_2 77 = .ok (.iinc 6 1, 3) := dk_132 6 1 (dk_at dksJ13_appendChars_2_3 7 rfl rfl)
theorem dJ13_appendChars_2_80 : decode cJ13_appendChars_2 80 = .ok (.iload 7, 2) := dk_21 7 (dk_at dksJ13_appendChars_2_3 10 rfl rfl)
theorem dJ13_appendChars_2_82 : decode cJ13_appendChars_2 82 = .ok (.i2b, 1) := dk_145 (dk_at dksJ13_appendChars_2_3 12 rfl rfl)
theorem dJ13_appendChars_2_83 : decode cJ13_appendChars_2 83 = .ok (.bastore, 1) := dk_84 (dk_at dksJ13_appendChars_2_3 13 rfl rfl)
theorem dJ13_appendChars_2_84 : decode cJ13_appendChars_2 84 = .ok (.goto 52, 3) := dk_167 0 52 (dk_at dksJ13_appendChars_2_3 14 rfl rfl)
theorem dJ13_appendChars_2_87 : decode cJ13_appendChars_2 87 = .ok (.aload_n 0, 1) := dk_42 (dk_at dksJ13_appendChars_2_3 17 rfl rfl)
theorem dJ13_appendChars_2_88 : decode cJ13_appendChars_2 88 = .ok (.iload 6, 2) := dk_21 6 (dk_at dksJ13_appendChars_2_3 18 rfl rfl)
theorem dJ13_appendChars_2_90 : decode cJ13_appendChars_2 90 = .ok (.putfield 79, 3) := dk_181 0 79 (dk_at dksJ13_appendChars_2_3 20 rfl rfl)
theorem dJ13_appendChars_2_93 : decode cJ13_appendChars_2 93 = .ok (.aload_n 0, 1) := dk_42 (dk_at dksJ13_appendChars_2_3 23 rfl rfl)
theorem dJ13_appendChars_2_94 : decode cJ13_appendChars_2 94 = .ok (.invokevirtual 195, 3) := dk_182 0 195 (dk_at dksJ13_appendChars_2_4 0 rfl rfl)
theorem dJ13_appendChars_2_97 : decode cJ13_appendChars_2 97 = .ok (.aload_n 1, 1) := dk_43 (dk_at dksJ13_appendChars_2_4 3 rfl rfl)
theorem dJ13_appendChars_2_98 : decode cJ13_appendChars_2 98 = .ok (.invokevirtual 401, 3) := dk_182 1 145 (dk_at dksJ13_appendChars_2_4 4 rfl rfl)
theorem dJ13_appendChars_2_101 : decode cJ13_appendChars_2 101 = .ok (.iload 5, 2) := dk_21 5 (dk_at dksJ13_appendChars_2_4 7 rfl rfl)
theorem dJ13_appendChars_2_103 : decode cJ13_appendChars_2 103 = .ok (.iconst 1, 1) := dk_4 (dk_at dksJ13_appendChars_2_4 9 rfl rfl)
theorem dJ13_appendChars_2_104 : decode cJ13_appendChars_2 104 = .ok (.ishl, 1) := dk_120 (dk_at dksJ13_appendChars_2_4 10 rfl rfl)
theorem dJ13_appendChars_2_105 : decode cJ13_appendChars_2 105 = .ok (.aload_n 0, 1) := dk_42 (dk_at dksJ13_appendChars_2_4 11 rfl rfl)
theorem dJ13_appendChars_2_106 : decode cJ13_appendChars_2 106 = .ok (.getfield 15, 3) := dk_180 0 15 (dk_at dksJ13_appendChars_2_4 12 rfl rfl)
theorem dJ13_appendChars_2_109 : decode cJ13_appendChars_2 109 = .ok (.iload 6, 2) := dk_21 6 (dk_at dksJ13_appendChars_2_4 15 rfl rfl)
theorem dJ13_appendChars_2_111 : decode cJ13_appendChars_2 111 = .ok (.iconst 1, 1) := dk_4 (dk_at dksJ13_appendChars_2_4 17 rfl rfl)
theorem dJ13_appendChars_2_112 : decode cJ13_appendChars_2 112 = .ok (.ishl, 1) := dk_120 (dk_at dksJ13_appendChars_2_4 18 rfl rfl)
theorem dJ13_appendChars_2_113 : decode cJ13_appendChars_2 113 = .ok (.iload_n 3, 1) := dk_29 (dk_at dksJ13_appendChars_2_4 19 rfl rfl)
theorem dJ13_appendChars_2_114 : decode cJ13_appendChars_2 114 = .ok (.iload 5, 2) := dk_21 5 (dk_at dksJ13_appendChars_2_4 20 rfl rfl)
theorem dJ13_appendChars_2_116 : decode cJ13_appendChars_2 116 = .ok (.isub, 1) := dk_100 (dk_at dksJ13_appendChars_2_4 22 rfl rfl)
theorem dJ13_appendChars_2_117 : decode cJ13_appendChars_2 117 = .ok (.iconst 1, 1) := dk_4 (dk_at dksJ13_appendChars_2_4 23 rfl rfl)
theorem dJ13_appendChars_2_118 : decode cJ13_appendChars_2 118 = .ok (.ishl, 1) := dk_120 (dk_at dksJ13_appendChars_2_5 0 rfl rfl)
theorem dJ13_appendChars_2_119 : decode cJ13_appendChars_2 119 = .ok (.invokestatic 309, 3) := dk_184 1 53 (dk_at dksJ13_appendChars_2_5 1 rfl rfl)
theorem dJ13_appendChars_2_122 : decode cJ13_appendChars_2 122 = .ok (.aload_n 0, 1) := dk_42 (dk_at dksJ13_appendChars_2_5 4 rfl rfl)
theorem dJ13_appendChars_2_123 : decode cJ13_appendChars_2 123 = .ok (.dup, 1) := dk_89 (dk_at dksJ13_appendChars_2_5 5 rfl rfl)
theorem dJ13_appendChars_2_124 : decode cJ13_appendChars_2 124 = .ok (.getfield 79, 3) := dk_180 0 79 (dk_at dksJ13_appendChars_2_5 6 rfl rfl)
theorem dJ13_appendChars_2_127 : decode cJ13_appendChars_2 127 = .ok (.iload_n 3, 1) := dk_29 (dk_at dksJ13_appendChars_2_5 9 rfl rfl)
theorem dJ13_appendChars_2_128 : decode cJ13_appendChars_2 128 = .ok (.iload 5, 2) := dk_21 5 (dk_at dksJ13_appendChars_2_5 10 rfl rfl)
theorem dJ13_appendChars_2_130 : decode cJ13_appendChars_2 130 = .ok (.isub, 1) := dk_100 (dk_at dksJ13_appendChars_2_5 12 rfl rfl)
theorem dJ13_appendChars_2_131 : decode cJ13_appendChars_2 131 = .ok (.iadd, 1) := dk_96 (dk_at dksJ13_appendChars_2_5 13 rfl rfl)
theorem dJ13_appendChars_2_132 : decode cJ13_appendChars_2 132 = .ok (.putfield 79, 3) := dk_181 0 79 (dk_at dksJ13_appendChars_2_5 14 rfl rfl)
theorem dJ13_appendChars_2_135 : decode cJ13_appendChars_2 135 = .ok (.return_, 1) := dk_177 (dk_at dksJ13_appendChars_2_5 17 rfl rfl)
theorem dJ13_appendChars_2_136 : decode cJ13_appendChars_2 136 = .ok (.iinc 5 1, 3) := dk_132 5 1 (dk_at dksJ13_appendChars_2_5 18 rfl rfl)
theorem dJ13_appendChars_2_139 : decode cJ13_appendChars_2 139 = .ok (.goto (-88), 3) := dk_167 255 168 (dk_at dksJ13_appendChars_2_5 21 rfl rfl)
theorem dJ13_appendChars_2_142 : decode cJ13_appendChars_2 142 = .ok (.goto 52, 3) := dk_167 0 52 (dk_at dksJ13_appendChars_2_6 0 rfl rfl)
theorem dJ13_appendChars_2_145 : decode cJ13_appendChars_2 145 = .ok (.aload_n 1, 1) := dk_43 (dk_at dksJ13_appendChars_2_6 3 rfl rfl)
theorem dJ13_appendChars_2_146 : decode cJ13_appendChars_2 146 = .ok (.invokevirtual 400, 3) := dk_182 1 144 (dk_at dksJ13_appendChars_2_6 4 rfl rfl)
theorem dJ13_appendChars_2_149 : decode cJ13_appendChars_2 149 = .ok (.ifCond .eq 20, 3) := dk_153 0 20 (dk_at dksJ13_appendChars_2_6 7 rfl rfl)
theorem dJ13_appendChars_2_152 : decode cJ13_appendChars_2 152 = .ok (.aload_n 0, 1) := dk_42 (dk_at dksJ13_appendChars_2_6 10 rfl rfl)
theorem dJ13_appendChars_2_153 : decode cJ13_appendChars_2 153 = .ok (.getfield 15, 3) := dk_180 0 15 (dk_at dksJ13_appendChars_2_6 11 rfl rfl)
theorem dJ13_appendChars_2_156 : decode cJ13_appendChars_2 156 = .ok (.aload_n 0, 1) := dk_42 (dk_at dksJ13_appendChars_2_6 14 rfl rfl)
theorem dJ13_appendChars_2_157 : decode cJ13_appendChars_2 157 = .ok (.getfield 79, 3) := dk_180 0 79 (dk_at dksJ13_appendChars_2_6 15 rfl rfl)
theorem dJ13_appendChars_2_160 : decode cJ13_appendChars_2 160 = .ok (.aload_n 1, 1) := dk_43 (dk_at dksJ13_appendChars_2_6 18 rfl rfl)
theorem dJ13_appendChars_2_161 : decode cJ13_appendChars_2 161 = .ok (.iload_n 2, 1) := dk_28 (dk_at dksJ13_appendChars_2_6 19 rfl rfl)
theorem dJ13_appendChars_2_162 : decode cJ13_appendChars_2 162 = .ok (.iload_n 3, 1) := dk_29 (dk_at dksJ13_appendChars_2_6 20 rfl rfl)
theorem dJ13_appendChars_2_163 : decode cJ13_appendChars_2 163 = .ok (.invokestatic 394, 3) := dk_184 1 138 (dk_at dksJ13_appendChars_2_6 21 rfl rfl)
theorem dJ13_appendChars_2_166 : decode cJ13_appendChars_2 166 = .ok (.goto 28, 3) := dk_167 0 28 (dk_at dksJ13_appendChars_2_7 0 rfl rfl)
theorem dJ13_appendChars_2_169 : decode cJ13_appendChars_2 169 = .ok (.aload_n 1, 1) := dk_43 (dk_at dksJ13_appendChars_2_7 3 rfl rfl)
theorem dJ13_appendChars_2_170 : decode cJ13_appendChars_2 170 = .ok (.invokevirtual 401, 3) := dk_182 1 145 (dk_at dksJ13_appendChars_2_7 4 rfl rfl)
theorem dJ13_appendChars_2_173 : decode cJ13_appendChars_2 173 = .ok (.iload_n 2, 1) := dk_28 (dk_at dksJ13_appendChars_2_7 7 rfl rfl)
theorem dJ13_appendChars_2_174 : decode cJ13_appendChars_2 174 = .ok (.iconst 1, 1) := dk_4 (dk_at dksJ13_appendChars_2_7 8 rfl rfl)
theorem dJ13_appendChars_2_175 : decode cJ13_appendChars_2 175 = .ok (.ishl, 1) := dk_120 (dk_at dksJ13_appendChars_2_7 9 rfl rfl)
theorem dJ13_appendChars_2_176 : decode cJ13_appendChars_2 176 = .ok (.aload_n 0, 1) := dk_42 (dk_at dksJ13_appendChars_2_7 10 rfl rfl)
theorem dJ13_appendChars_2_177 : decode cJ13_appendChars_2 177 = .ok (.getfield 15, 3) := dk_180 0 15 (dk_at dksJ13_appendChars_2_7 11 rfl rfl)
theorem dJ13_appendChars_2_180 : decode cJ13_appendChars_2 180 = .ok (.aload_n 0, 1) := dk_42 (dk_at dksJ13_appendChars_2_7 14 rfl rfl)
theorem dJ13_appendChars_2_181 : decode cJ13_appendChars_2 181 = .ok (.getfield 79, 3) := dk_180 0 79 (dk_at dksJ13_appendChars_2_7 15 rfl rfl)
theorem dJ13_appendChars_2_184 : decode cJ13_appendChars_2 184 = .ok (.iconst 1, 1) := dk_4 (dk_at dksJ13_appendChars_2_7 18 rfl rfl)
theorem dJ13_appendChars_2_185 : decode cJ13_appendChars_2 185 = .ok (.ishl, 1) := dk_120 (dk_at dksJ13_appendChars_2_7 19 rfl rfl)
theorem dJ13_appendChars_2_186 : decode cJ13_appendChars_2 186 = .ok (.iload_n 3, 1) := dk_29 (dk_at dksJ13_appendChars_2_7 20 rfl rfl)
theorem dJ13_appendChars_2_187 : decode cJ13_appendChars_2 187 = .ok (.iload_n 2, 1) := dk_28 (dk_at dksJ13_appendChars_2_7 21 rfl rfl)
theorem dJ13_appendChars_2_188 : decode cJ13_appendChars_2 188 = .ok (.isub, 1) := dk_100 (dk_at dksJ13_appendChars_2_7 22 rfl rfl)
theorem dJ13_appendChars_2_189 : decode cJ13_appendChars_2 189 = .ok (.iconst 1, 1) := dk_4 (dk_at dksJ13_appendChars_2_7 23 rfl rfl)
theorem dJ13_appendChars_2_190 : decode cJ13_appendChars_2 190 = .ok (.ishl, 1) := dk_120 (dk_at dksJ13_appendChars_2_8 0 rfl rfl)
theorem dJ13_appendChars_2_191 : decode cJ13_appendChars_2 191 = .ok (.invokestatic 309, 3) := dk_184 1 53 (dk_at dksJ13_appendChars_2_8 1 rfl rfl)
theorem dJ13_appendChars_2_194 : decode cJ13_appendChars_2 194 = .ok (.aload_n 0, 1) := dk_42 (dk_at dksJ13_appendChars_2_8 4 rfl rfl)
theorem dJ13_appendChars_2_195 : decode cJ13_appendChars_2 195 = .ok (.dup, 1) := dk_89 (dk_at dksJ13_appendChars_2_8 5 rfl rfl)
theorem dJ13_appendChars_2_196 : decode cJ13_appendChars_2 196 = .ok (.getfield 79, 3) := dk_180 0 79 (dk_at dksJ13_appendChars_2_8 6 rfl rfl)
theorem dJ13_appendChars_2_199 : decode cJ13_appendChars_2 199 = .ok (.iload_n 3, 1) := dk_29 (dk_at dksJ13_appendChars_2_8 9 rfl rfl)
theorem dJ13_appendChars_2_200 : decode cJ13_appendChars_2 200 = .ok (.iload_n 2, 1) := dk_28 (dk_at dksJ13_appendChars_2_8 10 rfl rfl)
theorem dJ13_appendChars_2_201 : decode cJ13_appendChars_2 201 = .ok (.isub, 1) := dk_100 (dk_at dksJ13_appendChars_2_8 11 rfl rfl)
theorem dJ13_appendChars_2_202 : decode cJ13_appendChars_2 202 = .ok (.iadd, 1) := dk_96 (dk_at dksJ13_appendChars_2_8 12 rfl rfl)
theorem dJ13_appendChars_2_203 : decode cJ13_appendChars_2 203 = .ok (.putfield 79, 3) := dk_181 0 79 (dk_at dksJ13_appendChars_2_8 13 rfl rfl)
theorem dJ13_appendChars_2_206 : decode cJ13_appendChars_2 206 = .ok (.return_, 1) := dk_177 (dk_at dksJ13_appendChars_2_8 16 rfl rfl)
abbrev iJ13_appendChars_2 : xM := (yJ13_appendChars_2, cJ13_appendChars_2, 8, none, [])
theorem mJ13_appendChars_2 : xOkM iJ13_appendChars_2 := ⟨by decide +kernel, by decide, q906, q146⟩
abbrev cJ13_charAt : ByteArray := prog_17_method_14_code
def yJ13_charAt : MethodName := ⟨RJ13, "charAt", "(I)C"⟩
def dkwJ13_charAt_1 : List UInt8 := [21, 4, 184, 0, 144, 28, 154, 0, 12, 45, 27, 51, 17, 0, 255, 126, 146, 172, 45, 27, 184, 0, 148, 172]
abbrev dktJ13_charAt_1 : List UInt8 := dkwJ13_charAt_1 ++ []
def dkwJ13_charAt_0 : List UInt8 := [42, 180, 0, 22, 61, 42, 180, 0, 15, 78, 42, 180, 0, 79, 45, 190, 28, 122, 184, 0, 138, 54, 4, 27]
abbrev dktJ13_charAt_0 : List UInt8 := dkwJ13_charAt_0 ++ dktJ13_charAt_1
theorem dksJ13_charAt_0 : cJ13_charAt.data.toList.drop 0 = dktJ13_charAt_0 := by decide +kernel
theorem dksJ13_charAt_1 : cJ13_charAt.data.toList.drop 24 = dktJ13_charAt_1 := dk_seg dksJ13_charAt_0 24 rfl rfl
theorem dJ13_charAt_0 : decode cJ13_charAt 0 = .ok (.aload_n 0, 1) := dk_42 (dk_at dksJ13_charAt_0 0 rfl rfl)
theorem dJ13_charAt_1 : decode cJ13_charAt 1 = .ok (.getfield 22, 3) := dk_180 0 22 (dk_at dksJ13_charAt_0 1 rfl rfl)
theorem dJ13_charAt_4 : decode cJ13_charAt 4 = .ok (.istore_n 2, 1) := dk_61 (dk_at dksJ13_charAt_0 4 rfl rfl)
theorem dJ13_charAt_5 : decode cJ13_charAt 5 = .ok (.aload_n 0, 1) := dk_42 (dk_at dksJ13_charAt_0 5 rfl rfl)
theorem dJ13_charAt_6 : decode cJ13_charAt 6 = .ok (.getfield 15, 3) := dk_180 0 15 (dk_at dksJ13_charAt_0 6 rfl rfl)
theorem dJ13_charAt_9 : decode cJ13_charAt 9 = .ok (.astore_n 3, 1) := dk_78 (dk_at dksJ13_charAt_0 9 rfl rfl)
theorem dJ13_charAt_10 : decode cJ13_charAt 10 = .ok (.aload_n 0, 1) := dk_42 (dk_at dksJ13_charAt_0 10 rfl rfl)
theorem dJ13_charAt_11 : decode cJ13_charAt 11 = .ok (.getfield 79, 3) := dk_180 0 79 (dk_at dksJ13_charAt_0 11 rfl rfl)
theorem dJ13_charAt_14 : decode cJ13_charAt 14 = .ok (.aload_n 3, 1) := dk_45 (dk_at dksJ13_charAt_0 14 rfl rfl)
theorem dJ13_charAt_15 : decode cJ13_charAt 15 = .ok (.arraylength, 1) := dk_190 (dk_at dksJ13_charAt_0 15 rfl rfl)
theorem dJ13_charAt_16 : decode cJ13_charAt 16 = .ok (.iload_n 2, 1) := dk_28 (dk_at dksJ13_charAt_0 16 rfl rfl)
theorem dJ13_charAt_17 : decode cJ13_charAt 17 = .ok (.ishr, 1) := dk_122 (dk_at dksJ13_charAt_0 17 rfl rfl)
theorem dJ13_charAt_18 : decode cJ13_charAt 18 = .ok (.invokestatic 138, 3) := dk_184 0 138 (dk_at dksJ13_charAt_0 18 rfl rfl)
theorem dJ13_charAt_21 : decode cJ13_charAt 21 = .ok (.istore 4, 2) := dk_54 4 (dk_at dksJ13_charAt_0 21 rfl rfl)
theorem dJ13_charAt_23 : decode cJ13_charAt 23 = .ok (.iload_n 1, 1) := dk_27 (dk_at dksJ13_charAt_0 23 rfl rfl)
theorem dJ13_charAt_24 : decode cJ13_charAt 24 = .ok (.iload 4, 2) := dk_21 4 (dk_at dksJ13_charAt_1 0 rfl rfl)
theorem dJ13_charAt_26 : decode cJ13_charAt 26 = .ok (.invokestatic 144, 3) := dk_184 0 144 (dk_at dksJ13_charAt_1 2 rfl rfl)
theorem dJ13_charAt_29 : decode cJ13_charAt 29 = .ok (.iload_n 2, 1) := dk_28 (dk_at dksJ13_charAt_1 5 rfl rfl)
theorem dJ13_charAt_30 : decode cJ13_charAt 30 = .ok (.ifCond .ne 12, 3) := dk_154 0 12 (dk_at dksJ13_charAt_1 6 rfl rfl)
theorem dJ13_charAt_33 : decode cJ13_charAt 33 = .ok (.aload_n 3, 1) := dk_45 (dk_at dksJ13_charAt_1 9 rfl rfl)
theorem dJ13_charAt_34 : decode cJ13_charAt 34 = .ok (.iload_n 1, 1) := dk_27 (dk_at dksJ13_charAt_1 10 rfl rfl)
theorem dJ13_charAt_35 : decode cJ13_charAt 35 = .ok (.baload, 1) := dk_51 (dk_at dksJ13_charAt_1 11 rfl rfl)
theorem dJ13_charAt_36 : decode cJ13_charAt 36 = .ok (.sipush 255, 3) := dk_17 0 255 (dk_at dksJ13_charAt_1 12 rfl rfl)
theorem dJ13_charAt_39 : decode cJ13_charAt 39 = .ok (.iand, 1) := dk_126 (dk_at dksJ13_charAt_1 15 rfl rfl)
theorem dJ13_charAt_40 : decode cJ13_charAt 40 = .ok (.i2c, 1) := dk_146 (dk_at dksJ13_charAt_1 16 rfl rfl)
theorem dJ13_charAt_41 : decode cJ13_charAt 41 = .ok (.ireturn, 1) := dk_172 (dk_at dksJ13_charAt_1 17 rfl rfl)
theorem dJ13_charAt_42 : decode cJ13_charAt 42 = .ok (.aload_n 3, 1) := dk_45 (dk_at dksJ13_charAt_1 18 rfl rfl)
theorem dJ13_charAt_43 : decode cJ13_charAt 43 = .ok (.iload_n 1, 1) := dk_27 (dk_at dksJ13_charAt_1 19 rfl rfl)
theorem dJ13_charAt_44 : decode cJ13_charAt 44 = .ok (.invokestatic 148, 3) := dk_184 0 148 (dk_at dksJ13_charAt_1 20 rfl rfl)
theorem dJ13_charAt_47 : decode cJ13_charAt 47 = .ok (.ireturn, 1) := dk_172 (dk_at dksJ13_charAt_1 23 rfl rfl)
abbrev iJ13_charAt : xM := (yJ13_charAt, cJ13_charAt, 5, (some .char), [])
theorem mJ13_charAt : xOkM iJ13_charAt := ⟨by decide +kernel, by decide, q944, q146⟩
abbrev cJ13_appendChars_3 : ByteArray := prog_17_method_76_code
def yJ13_appendChars_3 : MethodName := ⟨RJ13, "appendChars", "(Ljava/lang/CharSequence;II)V"⟩
def dkwJ13_appendChars_3_6 : List UInt8 := [184, 1, 138, 42, 89, 180, 0, 79, 29, 28, 100, 96, 181, 0, 79, 177]
abbrev dktJ13_appendChars_3_6 : List UInt8 := dkwJ13_appendChars_3_6 ++ []
def dkwJ13_appendChars_3_5 : List UInt8 := [181, 0, 79, 177, 132, 5, 1, 167, 255, 155, 167, 0, 17, 42, 180, 0, 15, 42, 180, 0, 79, 43, 28, 29]
abbrev dktJ13_appendChars_3_5 : List UInt8 := dkwJ13_appendChars_3_5 ++ dktJ13_appendChars_3_6
def dkwJ13_appendChars_3_4 : List UInt8 := [180, 0, 15, 21, 6, 43, 21, 5, 29, 184, 1, 138, 42, 89, 180, 0, 79, 29, 21, 5, 100, 96]
abbrev dktJ13_appendChars_3_4 : List UInt8 := dkwJ13_appendChars_3_4 ++ dktJ13_appendChars_3_5
def dkwJ13_appendChars_3_3 : List UInt8 := [180, 0, 15, 21, 6, 132, 6, 1, 21, 7, 184, 0, 197, 42, 21, 6, 181, 0, 79, 132, 5, 1, 42]
abbrev dktJ13_appendChars_3_3 : List UInt8 := dkwJ13_appendChars_3_3 ++ dktJ13_appendChars_3_4
def dkwJ13_appendChars_3_2 : List UInt8 := [21, 6, 132, 6, 1, 21, 7, 145, 84, 167, 0, 63, 42, 21, 6, 181, 0, 79, 42, 182, 0, 195, 42]
abbrev dktJ13_appendChars_3_2 : List UInt8 := dkwJ13_appendChars_3_2 ++ dktJ13_appendChars_3_3
def dkwJ13_appendChars_3_1 : List UInt8 := [29, 162, 0, 101, 43, 21, 5, 185, 1, 134, 2, 0, 54, 7, 21, 7, 184, 0, 191, 153, 0, 17, 25, 4]
abbrev dktJ13_appendChars_3_1 : List UInt8 := dkwJ13_appendChars_3_1 ++ dktJ13_appendChars_3_2
def dkwJ13_appendChars_3_0 : List UInt8 := [42, 182, 0, 83, 153, 0, 125, 42, 180, 0, 15, 58, 4, 28, 54, 5, 42, 180, 0, 79, 54, 6, 21, 5]
abbrev dktJ13_appendChars_3_0 : List UInt8 := dkwJ13_appendChars_3_0 ++ dktJ13_appendChars_3_1
theorem dksJ13_appendChars_3_0 : cJ13_appendChars_3.data.toList.drop 0 = dktJ13_appendChars_3_0 := by decide +kernel
theorem dksJ13_appendChars_3_1 : cJ13_appendChars_3.data.toList.drop 24 = dktJ13_appendChars_3_1 := dk_seg dksJ13_appendChars_3_0 24 rfl rfl
theorem dksJ13_appendChars_3_2 : cJ13_appendChars_3.data.toList.drop 48 = dktJ13_appendChars_3_2 := dk_seg dksJ13_appendChars_3_1 24 rfl rfl
theorem dksJ13_appendChars_3_3 : cJ13_appendChars_3.data.toList.drop 71 = dktJ13_appendChars_3_3 := dk_seg dksJ13_appendChars_3_2 23 rfl rfl
theorem dksJ13_appendChars_3_4 : cJ13_appendChars_3.data.toList.drop 94 = dktJ13_appendChars_3_4 := dk_seg dksJ13_appendChars_3_3 23 rfl rfl
theorem dksJ13_appendChars_3_5 : cJ13_appendChars_3.data.toList.drop 116 = dktJ13_appendChars_3_5 := dk_seg dksJ13_appendChars_3_4 22 rfl rfl
theorem dksJ13_appendChars_3_6 : cJ13_appendChars_3.data.toList.drop 140 = dktJ13_appendChars_3_6 := dk_seg dksJ13_appendChars_3_5 24 rfl rfl
theorem dJ13_appendChars_3_0 : decode cJ13_appendChars_3 0 = .ok (.aload_n 0, 1) := dk_42 (dk_at dksJ13_appendChars_3_0 0 rfl rfl)
theorem dJ13_appendChars_3_1 : decode cJ13_appendChars_3 1 = .ok (.invokevirtual 83, 3) := dk_182 0 83 (dk_at dksJ13_appendChars_3_0 1 rfl rfl)
theorem dJ13_appendChars_3_4 : decode cJ13_appendChars_3 4 = .ok (.ifCond .eq 125, 3) := dk_153 0 125 (dk_at dksJ13_appendChars_3_0 4 rfl rfl)
theorem dJ13_appendChars_3_7 : decode cJ13_appendChars_3 7 = .ok (.aload_n 0, 1) := dk_42 (dk_at dksJ13_appendChars_3_0 7 rfl rfl)
theorem dJ13_appendChars_3_8 : decode cJ13_appendChars_3 8 = .ok (.getfield 15, 3) := dk_180 0 15 (dk_at dksJ13_appendChars_3_0 8 rfl rfl)
theorem dJ13_appendChars_3_11 : decode cJ13_appendChars_3 11 = .ok (.astore 4, 2) := dk_58 4 (dk_at dksJ13_appendChars_3_0 11 rfl rfl)
theorem dJ13_appendChars_3_13 : decode cJ13_appendChars_3 13 = .ok (.iload_n 2, 1) := dk_28 (dk_at dksJ13_appendChars_3_0 13 rfl rfl)
theorem dJ13_appendChars_3_14 : decode cJ13_appendChars_3 14 = .ok (.istore 5, 2) := dk_54 5 (dk_at dksJ13_appendChars_3_0 14 rfl rfl)
theorem dJ13_appendChars_3_16 : decode cJ13_appendChars_3 16 = .ok (.aload_n 0, 1) := dk_42 (dk_at dksJ13_appendChars_3_0 16 rfl rfl)
theorem dJ13_appendChars_3_17 : decode cJ13_appendChars_3 17 = .ok (.getfield 79, 3) := dk_180 0 79 (dk_at dksJ13_appendChars_3_0 17 rfl rfl)
theorem dJ13_appendChars_3_20 : decode cJ13_appendChars_3 20 = .ok (.istore 6, 2) := dk_54 6 (dk_at dksJ13_appendChars_3_0 20 rfl rfl)
theorem dJ13_appendChars_3_22 : decode cJ13_appendChars_3 22 = .ok (.iload 5, 2) := dk_21 5 (dk_at dksJ13_appendChars_3_0 22 rfl rfl)
theorem dJ13_appendChars_3_24 : decode cJ13_appendChars_3 24 = .ok (.iload_n 3, 1) := dk_29 (dk_at dksJ13_appendChars_3_1 0 rfl rfl)
theorem dJ13_appendChars_3_25 : decode cJ13_appendChars_3 25 = .ok (.if_icmp .ge 101, 3) := dk_162 0 101 (dk_at dksJ13_appendChars_3_1 1 rfl rfl)
theorem dJ13_appendChars_3_28 : decode cJ13_appendChars_3 28 = .ok (.aload_n 1, 1) := dk_43 (dk_at dksJ13_appendChars_3_1 4 rfl rfl)
theorem dJ13_appendChars_3_29 : decode cJ13_appendChars_3 29 = .ok (.iload 5, 2) := dk_21 5 (dk_at dksJ13_appendChars_3_1 5 rfl rfl)
theorem dJ13_appendChars_3_31 : decode cJ13_appendChars_3 31 = .ok (.invokeinterface 390 2, 5) := by decide +kernel
theorem dJ13_appendChars_3_36 : decode cJ13_appendChars_3 36 = .ok (.istore 7, 2) := dk_54 7 (dk_at dksJ13_appendChars_3_1 12 rfl rfl)
theorem dJ13_appendChars_3_38 : decode cJ13_appendChars_3 38 = .ok (.iload 7, 2) := dk_21 7 (dk_at dksJ13_appendChars_3_1 14 rfl rfl)
theorem dJ13_appendChars_3_40 : decode cJ13_appendChars_3 40 = .ok (.invokestatic 191, 3) := dk_184 0 191 (dk_at dksJ13_appendChars_3_1 16 rfl rfl)
theorem dJ13_appendChars_3_43 : decode cJ13_appendChars_3 43 = .ok (.ifCond .eq 17, 3) := dk_153 0 17 (dk_at dksJ13_appendChars_3_1 19 rfl rfl)
theorem dJ13_appendChars_3_46 : decode cJ13_appendChars_3 46 = .ok (.aload 4, 2) := dk_25 4 (dk_at dksJ13_appendChars_3_1 22 rfl rfl)
theorem dJ13_appendChars_3_48 : decode cJ13_appendChars_3 48 = .ok (.iload 6, 2) := dk_21 6 (dk_at dksJ13_appendChars_3_2 0 rfl rfl)
theorem dJ13_appendChars_3_50 : decode cJ13_appendChars_3 50 = .ok (.iinc 6 1, 3) := dk_132 6 1 (dk_at dksJ13_appendChars_3_2 2 rfl rfl)
theorem dJ13_appendChars_3_53 : decode cJ13_appendChars_3 53 = .ok (.iload 7, 2) := dk_21 7 (dk_at dksJ13_appendChars_3_2 5 rfl rfl)
theorem dJ13_appendChars_3_55 : decode cJ13_appendChars_3 55 = .ok (.i2b, 1) := dk_145 (dk_at dksJ13_appendChars_3_2 7 rfl rfl)
theorem dJ13_appendChars_3_56 : decode cJ13_appendChars_3 56 = .ok (.bastore, 1) := dk_84 (dk_at dksJ13_appendChars_3_2 8 rfl rfl)
theorem dJ13_appendChars_3_57 : decode cJ13_appendChars_3 57 = .ok (.goto 63, 3) := dk_167 0 63 (dk_at dksJ13_appendChars_3_2 9 rfl rfl)
theorem dJ13_appendChars_3_60 : decode cJ13_appendChars_3 60 = .ok (.aload_n 0, 1) := dk_42 (dk_at dksJ13_appendChars_3_2 12 rfl rfl)
theorem dJ13_appendChars_3_61 : decode cJ13_appendChars_3 61 = .ok (.iload 6, 2) := dk_21 6 (dk_at dksJ13_appendChars_3_2 13 rfl rfl)
theorem dJ13_appendChars_3_63 : decode cJ13_appendChars_3 63 = .ok (.putfield 79, 3) := dk_181 0 79 (dk_at dksJ13_appendChars_3_2 15 rfl rfl)
theorem dJ13_appendChars_3_66 : decode cJ13_appendChars_3 66 = .ok (.aload_n 0, 1) := dk_42 (dk_at dksJ13_appendChars_3_2 18 rfl rfl)
theorem dJ13_appendChars_3_67 : decode cJ13_appendChars_3 67 = .ok (.invokevirtual 195, 3) := dk_182 0 195 (dk_at dksJ13_appendChars_3_2 19 rfl rfl)
theorem dJ13_appendChars_3_70 : decode cJ13_appendChars_3 70 = .ok (.aload_n 0, 1) := dk_42 (dk_at dksJ13_appendChars_3_2 22 rfl rfl)
theorem dJ13_appendChars_3_71 : decode cJ13_appendChars_3 71 = .ok (.getfield 15, 3) := dk_180 0 15 (dk_at dksJ13_appendChars_3_3 0 rfl rfl)
theorem dJ13_appendChars_3_74 : decode cJ13_appendChars_3 74 = .ok (.iload 6, 2) := dk_21 6 (dk_at dksJ13_appendChars_3_3 3 rfl rfl)
theorem dJ13_appendChars_3_76 : decode cJ13_appendChars_3 76 = .ok (.iinc 6 1, 3) := dk_132 6 1 (dk_at dksJ13_appendChars_3_3 5 rfl rfl)
theorem dJ13_appendChars_3_79 : decode cJ13_appendChars_3 79 = .ok (.iload 7, 2) := dk_21 7 (dk_at dksJ13_appendChars_3_3 8 rfl rfl)
theorem dJ13_appendChars_3_81 : decode cJ13_appendChars_3 81 = .ok (.invokestatic 197, 3) := dk_184 0 197 (dk_at dksJ13_appendChars_3_3 10 rfl rfl)
theorem dJ13_appendChars_3_84 : decode cJ13_appendChars_3 84 = .ok (.aload_n 0, 1) := dk_42 (dk_at dksJ13_appendChars_3_3 13 rfl rfl)
theorem dJ13_appendChars_3_85 : decode cJ13_appendChars_3 85 = .ok (.iload 6, 2) := dk_21 6 (dk_at dksJ13_appendChars_3_3 14 rfl rfl)
theorem dJ13_appendChars_3_87 : decode cJ13_appendChars_3 87 = .ok (.putfield 79, 3) := dk_181 0 79 (dk_at dksJ13_appendChars_3_3 16 rfl rfl)
theorem dJ13_appendChars_3_90 : decode cJ13_appendChars_3 90 = .ok (.iinc 5 1, 3) := dk_132 5 1 (dk_at dksJ13_appendChars_3_3 19 rfl rfl)
theorem dJ13_appendChars_3_93 : decode cJ13_appendChars_3 93 = .ok (.aload_n 0, 1) := dk_42 (dk_at dksJ13_appendChars_3_3 22 rfl rfl)
theorem dJ13_appendChars_3_94 : decode cJ13_appendChars_3 94 = .ok (.getfield 15, 3) := dk_180 0 15 (dk_at dksJ13_appendChars_3_4 0 rfl rfl)
theorem dJ13_appendChars_3_97 : decode cJ13_appendChars_3 97 = .ok (.iload 6, 2) := dk_21 6 (dk_at dksJ13_appendChars_3_4 3 rfl rfl)
theorem dJ13_appendChars_3_99 : decode cJ13_appendChars_3 99 = .ok (.aload_n 1, 1) := dk_43 (dk_at dksJ13_appendChars_3_4 5 rfl rfl)
theorem dJ13_appendChars_3_100 : decode cJ13_appendChars_3 100 = .ok (.iload 5, 2) := dk_21 5 (dk_at dksJ13_appendChars_3_4 6 rfl rfl)
theorem dJ13_appendChars_3_102 : decode cJ13_appendChars_3 102 = .ok (.iload_n 3, 1) := dk_29 (dk_at dksJ13_appendChars_3_4 8 rfl rfl)
theorem dJ13_appendChars_3_103 : decode cJ13_appendChars_3 103 = .ok (.invokestatic 394, 3) := dk_184 1 138 (dk_at dksJ13_appendChars_3_4 9 rfl rfl)
theorem dJ13_appendChars_3_106 : decode cJ13_appendChars_3 106 = .ok (.aload_n 0, 1) := dk_42 (dk_at dksJ13_appendChars_3_4 12 rfl rfl)
theorem dJ13_appendChars_3_107 : decode cJ13_appendChars_3 107 = .ok (.dup, 1) := dk_89 (dk_at dksJ13_appendChars_3_4 13 rfl rfl)
theorem dJ13_appendChars_3_108 : decode cJ13_appendChars_3 108 = .ok (.getfield 79, 3) := dk_180 0 79 (dk_at dksJ13_appendChars_3_4 14 rfl rfl)
theorem dJ13_appendChars_3_111 : decode cJ13_appendChars_3 111 = .ok (.iload_n 3, 1) := dk_29 (dk_at dksJ13_appendChars_3_4 17 rfl rfl)
theorem dJ13_appendChars_3_112 : decode cJ13_appendChars_3 112 = .ok (.iload 5, 2) := dk_21 5 (dk_at dksJ13_appendChars_3_4 18 rfl rfl)
theorem dJ13_appendChars_3_114 : decode cJ13_appendChars_3 114 = .ok (.isub, 1) := dk_100 (dk_at dksJ13_appendChars_3_4 20 rfl rfl)
theorem dJ13_appendChars_3_115 : decode cJ13_appendChars_3 115 = .ok (.iadd, 1) := dk_96 (dk_at dksJ13_appendChars_3_4 21 rfl rfl)
theorem dJ13_appendChars_3_116 : decode cJ13_appendChars_3 116 = .ok (.putfield 79, 3) := dk_181 0 79 (dk_at dksJ13_appendChars_3_5 0 rfl rfl)
theorem dJ13_appendChars_3_119 : decode cJ13_appendChars_3 119 = .ok (.return_, 1) := dk_177 (dk_at dksJ13_appendChars_3_5 3 rfl rfl)
theorem dJ13_appendChars_3_120 : decode cJ13_appendChars_3 120 = .ok (.iinc 5 1, 3) := dk_132 5 1 (dk_at dksJ13_appendChars_3_5 4 rfl rfl)
theorem dJ13_appendChars_3_123 : decode cJ13_appendChars_3 123 = .ok (.goto (-101), 3) := dk_167 255 155 (dk_at dksJ13_appendChars_3_5 7 rfl rfl)
theorem dJ13_appendChars_3_126 : decode cJ13_appendChars_3 126 = .ok (.goto 17, 3) := dk_167 0 17 (dk_at dksJ13_appendChars_3_5 10 rfl rfl)
theorem dJ13_appendChars_3_129 : decode cJ13_appendChars_3 129 = .ok (.aload_n 0, 1) := dk_42 (dk_at dksJ13_appendChars_3_5 13 rfl rfl)
theorem dJ13_appendChars_3_130 : decode cJ13_appendChars_3 130 = .ok (.getfield 15, 3) := dk_180 0 15 (dk_at dksJ13_appendChars_3_5 14 rfl rfl)
theorem dJ13_appendChars_3_133 : decode cJ13_appendChars_3 133 = .ok (.aload_n 0, 1) := dk_42 (dk_at dksJ13_appendChars_3_5 17 rfl rfl)
theorem dJ13_appendChars_3_134 : decode cJ13_appendChars_3 134 = .ok (.getfield 79, 3) := dk_180 0 79 (dk_at dksJ13_appendChars_3_5 18 rfl rfl)
theorem dJ13_appendChars_3_137 : decode cJ13_appendChars_3 137 = .ok (.aload_n 1, 1) := dk_43 (dk_at dksJ13_appendChars_3_5 21 rfl rfl)
theorem dJ13_appendChars_3_138 : decode cJ13_appendChars_3 138 = .ok (.iload_n 2, 1) := dk_28 (dk_at dksJ13_appendChars_3_5 22 rfl rfl)
theorem dJ13_appendChars_3_139 : decode cJ13_appendChars_3 139 = .ok (.iload_n 3, 1) := dk_29 (dk_at dksJ13_appendChars_3_5 23 rfl rfl)
theorem dJ13_appendChars_3_140 : decode cJ13_appendChars_3 140 = .ok (.invokestatic 394, 3) := dk_184 1 138 (dk_at dksJ13_appendChars_3_6 0 rfl rfl)
theorem dJ13_appendChars_3_143 : decode cJ13_appendChars_3 143 = .ok (.aload_n 0, 1) := dk_42 (dk_at dksJ13_appendChars_3_6 3 rfl rfl)
theorem dJ13_appendChars_3_144 : decode cJ13_appendChars_3 144 = .ok (.dup, 1) := dk_89 (dk_at dksJ13_appendChars_3_6 4 rfl rfl)
theorem dJ13_appendChars_3_145 : decode cJ13_appendChars_3 145 = .ok (.getfield 79, 3) := dk_180 0 79 (dk_at dksJ13_appendChars_3_6 5 rfl rfl)
theorem dJ13_appendChars_3_148 : decode cJ13_appendChars_3 148 = .ok (.iload_n 3, 1) := dk_29 (dk_at dksJ13_appendChars_3_6 8 rfl rfl)
theorem dJ13_appendChars_3_149 : decode cJ13_appendChars_3 149 = .ok (.iload_n 2, 1) := dk_28 (dk_at dksJ13_appendChars_3_6 9 rfl rfl)
theorem dJ13_appendChars_3_150 : decode cJ13_appendChars_3 150 = .ok (.isub, 1) := dk_100 (dk_at dksJ13_appendChars_3_6 10 rfl rfl)
theorem dJ13_appendChars_3_151 : decode cJ13_appendChars_3 151 = .ok (.iadd, 1) := dk_96 (dk_at dksJ13_appendChars_3_6 11 rfl rfl)
theorem dJ13_appendChars_3_152 : decode cJ13_appendChars_3 152 = .ok (.putfield 79, 3) := dk_181 0 79 (dk_at dksJ13_appendChars_3_6 12 rfl rfl)
theorem dJ13_appendChars_3_155 : decode cJ13_appendChars_3 155 = .ok (.return_, 1) := dk_177 (dk_at dksJ13_appendChars_3_6 15 rfl rfl)
abbrev iJ13_appendChars_3 : xM := (yJ13_appendChars_3, cJ13_appendChars_3, 8, none, [])
theorem mJ13_appendChars_3 : xOkM iJ13_appendChars_3 := ⟨by decide +kernel, by decide, q951, q146⟩
abbrev cJ13_compareTo : ByteArray := prog_17_method_5_code
def yJ13_compareTo : MethodName := ⟨RJ13, "compareTo", "(Ljava/lang/AbstractStringBuilder;)I"⟩
def dkwJ13_compareTo_4 : List UInt8 := [184, 0, 97, 172]
abbrev dktJ13_compareTo_4 : List UInt8 := dkwJ13_compareTo_4 ++ []
def dkwJ13_compareTo_3 : List UInt8 := [182, 0, 83, 153, 0, 15, 44, 45, 21, 4, 21, 5, 184, 0, 94, 167, 0, 12, 44, 45, 21, 4, 21, 5]
abbrev dktJ13_compareTo_3 : List UInt8 := dkwJ13_compareTo_3 ++ dktJ13_compareTo_4
def dkwJ13_compareTo_2 : List UInt8 := [45, 21, 4, 21, 5, 184, 0, 87, 167, 0, 12, 44, 45, 21, 4, 21, 5, 184, 0, 93, 172, 42]
abbrev dktJ13_compareTo_2 : List UInt8 := dkwJ13_compareTo_2 ++ dktJ13_compareTo_3
def dkwJ13_compareTo_1 : List UInt8 := [180, 0, 79, 54, 5, 42, 180, 0, 22, 43, 180, 0, 22, 160, 0, 32, 42, 182, 0, 83, 153, 0, 15, 44]
abbrev dktJ13_compareTo_1 : List UInt8 := dkwJ13_compareTo_1 ++ dktJ13_compareTo_2
def dkwJ13_compareTo_0 : List UInt8 := [42, 43, 166, 0, 5, 3, 172, 42, 180, 0, 15, 77, 43, 180, 0, 15, 78, 42, 180, 0, 79, 54, 4, 43]
abbrev dktJ13_compareTo_0 : List UInt8 := dkwJ13_compareTo_0 ++ dktJ13_compareTo_1
theorem dksJ13_compareTo_0 : cJ13_compareTo.data.toList.drop 0 = dktJ13_compareTo_0 := by decide +kernel
theorem dksJ13_compareTo_1 : cJ13_compareTo.data.toList.drop 24 = dktJ13_compareTo_1 := dk_seg dksJ13_compareTo_0 24 rfl rfl
theorem dksJ13_compareTo_2 : cJ13_compareTo.data.toList.drop 48 = dktJ13_compareTo_2 := dk_seg dksJ13_compareTo_1 24 rfl rfl
theorem dksJ13_compareTo_3 : cJ13_compareTo.data.toList.drop 70 = dktJ13_compareTo_3 := dk_seg dksJ13_compareTo_2 22 rfl rfl
theorem dksJ13_compareTo_4 : cJ13_compareTo.data.toList.drop 94 = dktJ13_compareTo_4 := dk_seg dksJ13_compareTo_3 24 rfl rfl
theorem dJ13_compareTo_0 : decode cJ13_compareTo 0 = .ok (.aload_n 0, 1) := dk_42 (dk_at dksJ13_compareTo_0 0 rfl rfl)
theorem dJ13_compareTo_1 : decode cJ13_compareTo 1 = .ok (.aload_n 1, 1) := dk_43 (dk_at dksJ13_compareTo_0 1 rfl rfl)
theorem dJ13_compareTo_2 : decode cJ13_compareTo 2 = .ok (.if_acmp .ne 5, 3) := dk_166 0 5 (dk_at dksJ13_compareTo_0 2 rfl rfl)
theorem dJ13_compareTo_5 : decode cJ13_compareTo 5 = .ok (.iconst 0, 1) := dk_3 (dk_at dksJ13_compareTo_0 5 rfl rfl)
theorem dJ13_compareTo_6 : decode cJ13_compareTo 6 = .ok (.ireturn, 1) := dk_172 (dk_at dksJ13_compareTo_0 6 rfl rfl)
theorem dJ13_compareTo_7 : decode cJ13_compareTo 7 = .ok (.aload_n 0, 1) := dk_42 (dk_at dksJ13_compareTo_0 7 rfl rfl)
theorem dJ13_compareTo_8 : decode cJ13_compareTo 8 = .ok (.getfield 15, 3) := dk_180 0 15 (dk_at dksJ13_compareTo_0 8 rfl rfl)
theorem dJ13_compareTo_11 : decode cJ13_compareTo 11 = .ok (.astore_n 2, 1) := dk_77 (dk_at dksJ13_compareTo_0 11 rfl rfl)
theorem dJ13_compareTo_12 : decode cJ13_compareTo 12 = .ok (.aload_n 1, 1) := dk_43 (dk_at dksJ13_compareTo_0 12 rfl rfl)
theorem dJ13_compareTo_13 : decode cJ13_compareTo 13 = .ok (.getfield 15, 3) := dk_180 0 15 (dk_at dksJ13_compareTo_0 13 rfl rfl)
theorem dJ13_compareTo_16 : decode cJ13_compareTo 16 = .ok (.astore_n 3, 1) := dk_78 (dk_at dksJ13_compareTo_0 16 rfl rfl)
theorem dJ13_compareTo_17 : decode cJ13_compareTo 17 = .ok (.aload_n 0, 1) := dk_42 (dk_at dksJ13_compareTo_0 17 rfl rfl)
theorem dJ13_compareTo_18 : decode cJ13_compareTo 18 = .ok (.getfield 79, 3) := dk_180 0 79 (dk_at dksJ13_compareTo_0 18 rfl rfl)
theorem dJ13_compareTo_21 : decode cJ13_compareTo 21 = .ok (.istore 4, 2) := dk_54 4 (dk_at dksJ13_compareTo_0 21 rfl rfl)
theorem dJ13_compareTo_23 : decode cJ13_compareTo 23 = .ok (.aload_n 1, 1) := dk_43 (dk_at dksJ13_compareTo_0 23 rfl rfl)
theorem dJ13_compareTo_24 : decode cJ13_compareTo 24 = .ok (.getfield 79, 3) := dk_180 0 79 (dk_at dksJ13_compareTo_1 0 rfl rfl)
theorem dJ13_compareTo_27 : decode cJ13_compareTo 27 = .ok (.istore 5, 2) := dk_54 5 (dk_at dksJ13_compareTo_1 3 rfl rfl)
theorem dJ13_compareTo_29 : decode cJ13_compareTo 29 = .ok (.aload_n 0, 1) := dk_42 (dk_at dksJ13_compareTo_1 5 rfl rfl)
theorem dJ13_compareTo_30 : decode cJ13_compareTo 30 = .ok (.getfield 22, 3) := dk_180 0 22 (dk_at dksJ13_compareTo_1 6 rfl rfl)
theorem dJ13_compareTo_33 : decode cJ13_compareTo 33 = .ok (.aload_n 1, 1) := dk_43 (dk_at dksJ13_compareTo_1 9 rfl rfl)
theorem dJ13_compareTo_34 : decode cJ13_compareTo 34 = .ok (.getfield 22, 3) := dk_180 0 22 (dk_at dksJ13_compareTo_1 10 rfl rfl)
theorem dJ13_compareTo_37 : decode cJ13_compareTo 37 = .ok (.if_icmp .ne 32, 3) := dk_160 0 32 (dk_at dksJ13_compareTo_1 13 rfl rfl)
theorem dJ13_compareTo_40 : decode cJ13_compareTo 40 = .ok (.aload_n 0, 1) := dk_42 (dk_at dksJ13_compareTo_1 16 rfl rfl)
theorem dJ13_compareTo_41 : decode cJ13_compareTo 41 = .ok (.invokevirtual 83, 3) := dk_182 0 83 (dk_at dksJ13_compareTo_1 17 rfl rfl)
theorem dJ13_compareTo_44 : decode cJ13_compareTo 44 = .ok (.ifCond .eq 15, 3) := dk_153 0 15 (dk_at dksJ13_compareTo_1 20 rfl rfl)
theorem dJ13_compareTo_47 : decode cJ13_compareTo 47 = .ok (.aload_n 2, 1) := dk_44 (dk_at dksJ13_compareTo_1 23 rfl rfl)
theorem dJ13_compareTo_48 : decode cJ13_compareTo 48 = .ok (.aload_n 3, 1) := dk_45 (dk_at dksJ13_compareTo_2 0 rfl rfl)
theorem dJ13_compareTo_49 : decode cJ13_compareTo 49 = .ok (.iload 4, 2) := dk_21 4 (dk_at dksJ13_compareTo_2 1 rfl rfl)
theorem dJ13_compareTo_51 : decode cJ13_compareTo 51 = .ok (.iload 5, 2) := dk_21 5 (dk_at dksJ13_compareTo_2 3 rfl rfl)
theorem dJ13_compareTo_53 : decode cJ13_compareTo 53 = .ok (.invokestatic 87, 3) := dk_184 0 87 (dk_at dksJ13_compareTo_2 5 rfl rfl)
theorem dJ13_compareTo_56 : decode cJ13_compareTo 56 = .ok (.goto 12, 3) := dk_167 0 12 (dk_at dksJ13_compareTo_2 8 rfl rfl)
theorem dJ13_compareTo_59 : decode cJ13_compareTo 59 = .ok (.aload_n 2, 1) := dk_44 (dk_at dksJ13_compareTo_2 11 rfl rfl)
theorem dJ13_compareTo_60 : decode cJ13_compareTo 60 = .ok (.aload_n 3, 1) := dk_45 (dk_at dksJ13_compareTo_2 12 rfl rfl)
theorem dJ13_compareTo_61 : decode cJ13_compareTo 61 = .ok (.iload 4, 2) := dk_21 4 (dk_at dksJ13_compareTo_2 13 rfl rfl)
theorem dJ13_compareTo_63 : decode cJ13_compareTo 63 = .ok (.iload 5, 2) := dk_21 5 (dk_at dksJ13_compareTo_2 15 rfl rfl)
theorem dJ13_compareTo_65 : decode cJ13_compareTo 65 = .ok (.invokestatic 93, 3) := dk_184 0 93 (dk_at dksJ13_compareTo_2 17 rfl rfl)
theorem dJ13_compareTo_68 : decode cJ13_compareTo 68 = .ok (.ireturn, 1) := dk_172 (dk_at dksJ13_compareTo_2 20 rfl rfl)
theorem dJ13_compareTo_69 : decode cJ13_compareTo 69 = .ok (.aload_n 0, 1) := dk_42 (dk_at dksJ13_compareTo_2 21 rfl rfl)
theorem dJ13_compareTo_70 : decode cJ13_compareTo 70 = .ok (.invokevirtual 83, 3) := dk_182 0 83 (dk_at dksJ13_compareTo_3 0 rfl rfl)
theorem dJ13_compareTo_73 : decode cJ13_compareTo 73 = .ok (.ifCond .eq 15, 3) := dk_153 0 15 (dk_at dksJ13_compareTo_3 3 rfl rfl)
theorem dJ13_compareTo_76 : decode cJ13_compareTo 76 = .ok (.aload_n 2, 1) := dk_44 (dk_at dksJ13_compareTo_3 6 rfl rfl)
theorem dJ13_compareTo_77 : decode cJ13_compareTo 77 = .ok (.aload_n 3, 1) := dk_45 (dk_at dksJ13_compareTo_3 7 rfl rfl)
theorem dJ13_compareTo_78 : decode cJ13_compareTo 78 = .ok (.iload 4, 2) := dk_21 4 (dk_at dksJ13_compareTo_3 8 rfl rfl)
theorem dJ13_compareTo_80 : decode cJ13_compareTo 80 = .ok (.iload 5, 2) := dk_21 5 (dk_at dksJ13_compareTo_3 10 rfl rfl)
theorem dJ13_compareTo_82 : decode cJ13_compareTo 82 = .ok (.invokestatic 94, 3) := dk_184 0 94 (dk_at dksJ13_compareTo_3 12 rfl rfl)
theorem dJ13_compareTo_85 : decode cJ13_compareTo 85 = .ok (.goto 12, 3) := dk_167 0 12 (dk_at dksJ13_compareTo_3 15 rfl rfl)
theorem dJ13_compareTo_88 : decode cJ13_compareTo 88 = .ok (.aload_n 2, 1) := dk_44 (dk_at dksJ13_compareTo_3 18 rfl rfl)
theorem dJ13_compareTo_89 : decode cJ13_compareTo 89 = .ok (.aload_n 3, 1) := dk_45 (dk_at dksJ13_compareTo_3 19 rfl rfl)
theorem dJ13_compareTo_90 : decode cJ13_compareTo 90 = .ok (.iload 4, 2) := dk_21 4 (dk_at dksJ13_compareTo_3 20 rfl rfl)
theorem dJ13_compareTo_92 : decode cJ13_compareTo 92 = .ok (.iload 5, 2) := dk_21 5 (dk_at dksJ13_compareTo_3 22 rfl rfl)
theorem dJ13_compareTo_94 : decode cJ13_compareTo 94 = .ok (.invokestatic 97, 3) := dk_184 0 97 (dk_at dksJ13_compareTo_4 0 rfl rfl)
theorem dJ13_compareTo_97 : decode cJ13_compareTo 97 = .ok (.ireturn, 1) := dk_172 (dk_at dksJ13_compareTo_4 3 rfl rfl)
abbrev iJ13_compareTo : xM := (yJ13_compareTo, cJ13_compareTo, 6, (some .int), [])
theorem mJ13_compareTo : xOkM iJ13_compareTo := ⟨by decide +kernel, by decide, q1750, q146⟩
abbrev cJ13_setLength : ByteArray := prog_17_method_13_code
def yJ13_setLength : MethodName := ⟨RJ13, "setLength", "(I)V"⟩
def dkwJ13_setLength_3 : List UInt8 := [164, 0, 8, 42, 4, 181, 0, 73, 42, 27, 181, 0, 79, 177]
abbrev dktJ13_setLength_3 : List UInt8 := dkwJ13_setLength_3 ++ []
def dkwJ13_setLength_2 : List UInt8 := [167, 0, 31, 42, 180, 0, 15, 42, 180, 0, 79, 27, 184, 0, 137, 167, 0, 16, 42, 180, 0, 79, 27]
abbrev dktJ13_setLength_2 : List UInt8 := dkwJ13_setLength_2 ++ dktJ13_setLength_3
def dkwJ13_setLength_1 : List UInt8 := [162, 0, 40, 42, 182, 0, 83, 153, 0, 18, 42, 180, 0, 15, 42, 180, 0, 79, 27, 184, 0, 133]
abbrev dktJ13_setLength_1 : List UInt8 := dkwJ13_setLength_1 ++ dktJ13_setLength_2
def dkwJ13_setLength_0 : List UInt8 := [27, 156, 0, 12, 187, 0, 129, 89, 27, 183, 0, 131, 191, 42, 27, 182, 0, 100, 42, 180, 0, 79, 27]
abbrev dktJ13_setLength_0 : List UInt8 := dkwJ13_setLength_0 ++ dktJ13_setLength_1
theorem dksJ13_setLength_0 : cJ13_setLength.data.toList.drop 0 = dktJ13_setLength_0 := by decide +kernel
theorem dksJ13_setLength_1 : cJ13_setLength.data.toList.drop 23 = dktJ13_setLength_1 := dk_seg dksJ13_setLength_0 23 rfl rfl
theorem dksJ13_setLength_2 : cJ13_setLength.data.toList.drop 45 = dktJ13_setLength_2 := dk_seg dksJ13_setLength_1 22 rfl rfl
theorem dksJ13_setLength_3 : cJ13_setLength.data.toList.drop 68 = dktJ13_setLength_3 := dk_seg dksJ13_setLength_2 23 rfl rfl
theorem dJ13_setLength_0 : decode cJ13_setLength 0 = .ok (.iload_n 1, 1) := dk_27 (dk_at dksJ13_setLength_0 0 rfl rfl)
theorem dJ13_setLength_1 : decode cJ13_setLength 1 = .ok (.ifCond .ge 12, 3) := dk_156 0 12 (dk_at dksJ13_setLength_0 1 rfl rfl)
theorem dJ13_setLength_4 : decode cJ13_setLength 4 = .ok (.new 129, 3) := dk_187 0 129 (dk_at dksJ13_setLength_0 4 rfl rfl)
theorem dJ13_setLength_7 : decode cJ13_setLength 7 = .ok (.dup, 1) := dk_89 (dk_at dksJ13_setLength_0 7 rfl rfl)
theorem dJ13_setLength_8 : decode cJ13_setLength 8 = .ok (.iload_n 1, 1) := dk_27 (dk_at dksJ13_setLength_0 8 rfl rfl)
theorem dJ13_setLength_9 : decode cJ13_setLength 9 = .ok (.invokespecial 131, 3) := dk_183 0 131 (dk_at dksJ13_setLength_0 9 rfl rfl)
theorem dJ13_setLength_12 : decode cJ13_setLength 12 = .ok (.athrow, 1) := dk_191 (dk_at dksJ13_setLength_0 12 rfl rfl)
theorem dJ13_setLength_13 : decode cJ13_setLength 13 = .ok (.aload_n 0, 1) := dk_42 (dk_at dksJ13_setLength_0 13 rfl rfl)
theorem dJ13_setLength_14 : decode cJ13_setLength 14 = .ok (.iload_n 1, 1) := dk_27 (dk_at dksJ13_setLength_0 14 rfl rfl)
theorem dJ13_setLength_15 : decode cJ13_setLength 15 = .ok (.invokevirtual 100, 3) := dk_182 0 100 (dk_at dksJ13_setLength_0 15 rfl rfl)
theorem dJ13_setLength_18 : decode cJ13_setLength 18 = .ok (.aload_n 0, 1) := dk_42 (dk_at dksJ13_setLength_0 18 rfl rfl)
theorem dJ13_setLength_19 : decode cJ13_setLength 19 = .ok (.getfield 79, 3) := dk_180 0 79 (dk_at dksJ13_setLength_0 19 rfl rfl)
theorem dJ13_setLength_22 : decode cJ13_setLength 22 = .ok (.iload_n 1, 1) := dk_27 (dk_at dksJ13_setLength_0 22 rfl rfl)
theorem dJ13_setLength_23 : decode cJ13_setLength 23 = .ok (.if_icmp .ge 40, 3) := dk_162 0 40 (dk_at dksJ13_setLength_1 0 rfl rfl)
theorem dJ13_setLength_26 : decode cJ13_setLength 26 = .ok (.aload_n 0, 1) := dk_42 (dk_at dksJ13_setLength_1 3 rfl rfl)
theorem dJ13_setLength_27 : decode cJ13_setLength 27 = .ok (.invokevirtual 83, 3) := dk_182 0 83 (dk_at dksJ13_setLength_1 4 rfl rfl)
theorem dJ13_setLength_30 : decode cJ13_setLength 30 = .ok (.ifCond .eq 18, 3) := dk_153 0 18 (dk_at dksJ13_setLength_1 7 rfl rfl)
theorem dJ13_setLength_33 : decode cJ13_setLength 33 = .ok (.aload_n 0, 1) := dk_42 (dk_at dksJ13_setLength_1 10 rfl rfl)
theorem dJ13_setLength_34 : decode cJ13_setLength 34 = .ok (.getfield 15, 3) := dk_180 0 15 (dk_at dksJ13_setLength_1 11 rfl rfl)
theorem dJ13_setLength_37 : decode cJ13_setLength 37 = .ok (.aload_n 0, 1) := dk_42 (dk_at dksJ13_setLength_1 14 rfl rfl)
theorem dJ13_setLength_38 : decode cJ13_setLength 38 = .ok (.getfield 79, 3) := dk_180 0 79 (dk_at dksJ13_setLength_1 15 rfl rfl)
theorem dJ13_setLength_41 : decode cJ13_setLength 41 = .ok (.iload_n 1, 1) := dk_27 (dk_at dksJ13_setLength_1 18 rfl rfl)
theorem dJ13_setLength_42 : decode cJ13_setLength 42 = .ok (.invokestatic 133, 3) := dk_184 0 133 (dk_at dksJ13_setLength_1 19 rfl rfl)
theorem dJ13_setLength_45 : decode cJ13_setLength 45 = .ok (.goto 31, 3) := dk_167 0 31 (dk_at dksJ13_setLength_2 0 rfl rfl)
theorem dJ13_setLength_48 : decode cJ13_setLength 48 = .ok (.aload_n 0, 1) := dk_42 (dk_at dksJ13_setLength_2 3 rfl rfl)
theorem dJ13_setLength_49 : decode cJ13_setLength 49 = .ok (.getfield 15, 3) := dk_180 0 15 (dk_at dksJ13_setLength_2 4 rfl rfl)
theorem dJ13_setLength_52 : decode cJ13_setLength 52 = .ok (.aload_n 0, 1) := dk_42 (dk_at dksJ13_setLength_2 7 rfl rfl)
theorem dJ13_setLength_53 : decode cJ13_setLength 53 = .ok (.getfield 79, 3) := dk_180 0 79 (dk_at dksJ13_setLength_2 8 rfl rfl)
theorem dJ13_setLength_56 : decode cJ13_setLength 56 = .ok (.iload_n 1, 1) := dk_27 (dk_at dksJ13_setLength_2 11 rfl rfl)
theorem dJ13_setLength_57 : decode cJ13_setLength 57 = .ok (.invokestatic 137, 3) := dk_184 0 137 (dk_at dksJ13_setLength_2 12 rfl rfl)
theorem dJ13_setLength_60 : decode cJ13_setLength 60 = .ok (.goto 16, 3) := dk_167 0 16 (dk_at dksJ13_setLength_2 15 rfl rfl)
theorem dJ13_setLength_63 : decode cJ13_setLength 63 = .ok (.aload_n 0, 1) := dk_42 (dk_at dksJ13_setLength_2 18 rfl rfl)
theorem dJ13_setLength_64 : decode cJ13_setLength 64 = .ok (.getfield 79, 3) := dk_180 0 79 (dk_at dksJ13_setLength_2 19 rfl rfl)
theorem dJ13_setLength_67 : decode cJ13_setLength 67 = .ok (.iload_n 1, 1) := dk_27 (dk_at dksJ13_setLength_2 22 rfl rfl)
theorem dJ13_setLength_68 : decode cJ13_setLength 68 = .ok (.if_icmp .le 8, 3) := dk_164 0 8 (dk_at dksJ13_setLength_3 0 rfl rfl)
theorem dJ13_setLength_71 : decode cJ13_setLength 71 = .ok (.aload_n 0, 1) := dk_42 (dk_at dksJ13_setLength_3 3 rfl rfl)
theorem dJ13_setLength_72 : decode cJ13_setLength 72 = .ok (.iconst 1, 1) := dk_4 (dk_at dksJ13_setLength_3 4 rfl rfl)
theorem dJ13_setLength_73 : decode cJ13_setLength 73 = .ok (.putfield 73, 3) := dk_181 0 73 (dk_at dksJ13_setLength_3 5 rfl rfl)
theorem dJ13_setLength_76 : decode cJ13_setLength 76 = .ok (.aload_n 0, 1) := dk_42 (dk_at dksJ13_setLength_3 8 rfl rfl)
theorem dJ13_setLength_77 : decode cJ13_setLength 77 = .ok (.iload_n 1, 1) := dk_27 (dk_at dksJ13_setLength_3 9 rfl rfl)
theorem dJ13_setLength_78 : decode cJ13_setLength 78 = .ok (.putfield 79, 3) := dk_181 0 79 (dk_at dksJ13_setLength_3 10 rfl rfl)
theorem dJ13_setLength_81 : decode cJ13_setLength 81 = .ok (.return_, 1) := dk_177 (dk_at dksJ13_setLength_3 13 rfl rfl)
abbrev iJ13_setLength : xM := (yJ13_setLength, cJ13_setLength, 2, none, [])
theorem mJ13_setLength : xOkM iJ13_setLength := ⟨by decide +kernel, by decide, q3155, q146⟩
abbrev cJ14_init : ByteArray := prog_40_method_1_code
def yJ14_init : MethodName := ⟨RJ14, "<init>", "()V"⟩
def dkwJ14_init_0 : List UInt8 := [42, 16, 16, 183, 0, 1, 177]
abbrev dktJ14_init_0 : List UInt8 := dkwJ14_init_0 ++ []
theorem dksJ14_init_0 : cJ14_init.data.toList.drop 0 = dktJ14_init_0 := by decide +kernel
theorem dJ14_init_0 : decode cJ14_init 0 = .ok (.aload_n 0, 1) := dk_42 (dk_at dksJ14_init_0 0 rfl rfl)
theorem dJ14_init_1 : decode cJ14_init 1 = .ok (.bipush 16, 2) := dk_16 16 (dk_at dksJ14_init_0 1 rfl rfl)
theorem dJ14_init_3 : decode cJ14_init 3 = .ok (.invokespecial 1, 3) := dk_183 0 1 (dk_at dksJ14_init_0 3 rfl rfl)
theorem dJ14_init_6 : decode cJ14_init 6 = .ok (.return_, 1) := dk_177 (dk_at dksJ14_init_0 6 rfl rfl)
abbrev iJ14_init : xM := (yJ14_init, cJ14_init, 1, none, [])
theorem mJ14_init : xOkM iJ14_init := ⟨by decide +kernel, by decide, q379, q147⟩
abbrev cJ14_append : ByteArray := prog_40_method_7_code
def yJ14_append : MethodName := ⟨RJ14, "append", "(Ljava/lang/String;)Ljava/lang/StringBuilder;"⟩
def dkwJ14_append_0 : List UInt8 := [42, 43, 183, 0, 29, 87, 42, 176]
abbrev dktJ14_append_0 : List UInt8 := dkwJ14_append_0 ++ []
theorem dksJ14_append_0 : cJ14_append.data.toList.drop 0 = dktJ14_append_0 := by decide +kernel
theorem dJ14_append_0 : decode cJ14_append 0 = .ok (.aload_n 0, 1) := dk_42 (dk_at dksJ14_append_0 0 rfl rfl)
theorem dJ14_append_1 : decode cJ14_append 1 = .ok (.aload_n 1, 1) := dk_43 (dk_at dksJ14_append_0 1 rfl rfl)
theorem dJ14_append_2 : decode cJ14_append 2 = .ok (.invokespecial 29, 3) := dk_183 0 29 (dk_at dksJ14_append_0 2 rfl rfl)
theorem dJ14_append_5 : decode cJ14_append 5 = .ok (.pop, 1) := dk_87 (dk_at dksJ14_append_0 5 rfl rfl)
theorem dJ14_append_6 : decode cJ14_append 6 = .ok (.aload_n 0, 1) := dk_42 (dk_at dksJ14_append_0 6 rfl rfl)
theorem dJ14_append_7 : decode cJ14_append 7 = .ok (.areturn, 1) := dk_176 (dk_at dksJ14_append_0 7 rfl rfl)
abbrev iJ14_append : xM := (yJ14_append, cJ14_append, 2, (some (.object "java/lang/StringBuilder")), [])
theorem mJ14_append : xOkM iJ14_append := ⟨by decide +kernel, by decide, q412, q147⟩
abbrev cJ14_append_2 : ByteArray := prog_40_method_15_code
def yJ14_append_2 : MethodName := ⟨RJ14, "append", "(I)Ljava/lang/StringBuilder;"⟩
def dkwJ14_append_2_0 : List UInt8 := [42, 27, 183, 0, 53, 87, 42, 176]
abbrev dktJ14_append_2_0 : List UInt8 := dkwJ14_append_2_0 ++ []
theorem dksJ14_append_2_0 : cJ14_append_2.data.toList.drop 0 = dktJ14_append_2_0 := by decide +kernel
theorem dJ14_append_2_0 : decode cJ14_append_2 0 = .ok (.aload_n 0, 1) := dk_42 (dk_at dksJ14_append_2_0 0 rfl rfl)
theorem dJ14_append_2_1 : decode cJ14_append_2 1 = .ok (.iload_n 1, 1) := dk_27 (dk_at dksJ14_append_2_0 1 rfl rfl)
theorem dJ14_append_2_2 : decode cJ14_append_2 2 = .ok (.invokespecial 53, 3) := dk_183 0 53 (dk_at dksJ14_append_2_0 2 rfl rfl)
theorem dJ14_append_2_5 : decode cJ14_append_2 5 = .ok (.pop, 1) := dk_87 (dk_at dksJ14_append_2_0 5 rfl rfl)
theorem dJ14_append_2_6 : decode cJ14_append_2 6 = .ok (.aload_n 0, 1) := dk_42 (dk_at dksJ14_append_2_0 6 rfl rfl)
theorem dJ14_append_2_7 : decode cJ14_append_2 7 = .ok (.areturn, 1) := dk_176 (dk_at dksJ14_append_2_0 7 rfl rfl)
abbrev iJ14_append_2 : xM := (yJ14_append_2, cJ14_append_2, 2, (some (.object "java/lang/StringBuilder")), [])
theorem mJ14_append_2 : xOkM iJ14_append_2 := ⟨by decide +kernel, by decide, q532, q147⟩
abbrev cJ14_toString : ByteArray := prog_40_method_42_code
def yJ14_toString : MethodName := ⟨RJ14, "toString", "()Ljava/lang/String;"⟩
def dkwJ14_toString_0 : List UInt8 := [187, 0, 18, 89, 42, 183, 0, 137, 176]
abbrev dktJ14_toString_0 : List UInt8 := dkwJ14_toString_0 ++ []
theorem dksJ14_toString_0 : cJ14_toString.data.toList.drop 0 = dktJ14_toString_0 := by decide +kernel
theorem dJ14_toString_0 : decode cJ14_toString 0 = .ok (.new 18, 3) := dk_187 0 18 (dk_at dksJ14_toString_0 0 rfl rfl)
theorem dJ14_toString_3 : decode cJ14_toString 3 = .ok (.dup, 1) := dk_89 (dk_at dksJ14_toString_0 3 rfl rfl)
theorem dJ14_toString_4 : decode cJ14_toString 4 = .ok (.aload_n 0, 1) := dk_42 (dk_at dksJ14_toString_0 4 rfl rfl)
theorem dJ14_toString_5 : decode cJ14_toString 5 = .ok (.invokespecial 137, 3) := dk_183 0 137 (dk_at dksJ14_toString_0 5 rfl rfl)
theorem dJ14_toString_8 : decode cJ14_toString 8 = .ok (.areturn, 1) := dk_176 (dk_at dksJ14_toString_0 8 rfl rfl)
abbrev iJ14_toString : xM := (yJ14_toString, cJ14_toString, 1, (some (.object "java/lang/String")), [])
theorem mJ14_toString : xOkM iJ14_toString := ⟨by decide +kernel, by decide, q557, q147⟩
abbrev cJ14_length : ByteArray := prog_40_method_93_code
def yJ14_length : MethodName := ⟨RJ14, "length", "()I"⟩
theorem dJ14_length_0 : decode cJ14_length 0 = .ok (.aload_n 0, 1) := by decide +kernel
theorem dJ14_length_1 : decode cJ14_length 1 = .ok (.invokespecial 343, 3) := by decide +kernel
theorem dJ14_length_4 : decode cJ14_length 4 = .ok (.ireturn, 1) := by decide +kernel
abbrev iJ14_length : xM := (yJ14_length, cJ14_length, 1, (some .int), [])
theorem mJ14_length : xOkM iJ14_length := ⟨by decide +kernel, by decide, q577, q147⟩
abbrev cJ14_append_3 : ByteArray := prog_40_method_17_code
def yJ14_append_3 : MethodName := ⟨RJ14, "append", "(F)Ljava/lang/StringBuilder;"⟩
def dkwJ14_append_3_0 : List UInt8 := [42, 35, 183, 0, 59, 87, 42, 176]
abbrev dktJ14_append_3_0 : List UInt8 := dkwJ14_append_3_0 ++ []
theorem dksJ14_append_3_0 : cJ14_append_3.data.toList.drop 0 = dktJ14_append_3_0 := by decide +kernel
theorem dJ14_append_3_0 : decode cJ14_append_3 0 = .ok (.aload_n 0, 1) := dk_42 (dk_at dksJ14_append_3_0 0 rfl rfl)
theorem dJ14_append_3_1 : decode cJ14_append_3 1 = .ok (.fload_n 1, 1) := dk_35 (dk_at dksJ14_append_3_0 1 rfl rfl)
theorem dJ14_append_3_2 : decode cJ14_append_3 2 = .ok (.invokespecial 59, 3) := dk_183 0 59 (dk_at dksJ14_append_3_0 2 rfl rfl)
theorem dJ14_append_3_5 : decode cJ14_append_3 5 = .ok (.pop, 1) := dk_87 (dk_at dksJ14_append_3_0 5 rfl rfl)
theorem dJ14_append_3_6 : decode cJ14_append_3 6 = .ok (.aload_n 0, 1) := dk_42 (dk_at dksJ14_append_3_0 6 rfl rfl)
theorem dJ14_append_3_7 : decode cJ14_append_3 7 = .ok (.areturn, 1) := dk_176 (dk_at dksJ14_append_3_0 7 rfl rfl)
abbrev iJ14_append_3 : xM := (yJ14_append_3, cJ14_append_3, 2, (some (.object "java/lang/StringBuilder")), [])
theorem mJ14_append_3 : xOkM iJ14_append_3 := ⟨by decide +kernel, by decide, q657, q147⟩
abbrev cJ14_append_4 : ByteArray := prog_40_method_11_code
def yJ14_append_4 : MethodName := ⟨RJ14, "append", "([C)Ljava/lang/StringBuilder;"⟩
def dkwJ14_append_4_0 : List UInt8 := [42, 43, 183, 0, 41, 87, 42, 176]
abbrev dktJ14_append_4_0 : List UInt8 := dkwJ14_append_4_0 ++ []
theorem dksJ14_append_4_0 : cJ14_append_4.data.toList.drop 0 = dktJ14_append_4_0 := by decide +kernel
theorem dJ14_append_4_0 : decode cJ14_append_4 0 = .ok (.aload_n 0, 1) := dk_42 (dk_at dksJ14_append_4_0 0 rfl rfl)
theorem dJ14_append_4_1 : decode cJ14_append_4 1 = .ok (.aload_n 1, 1) := dk_43 (dk_at dksJ14_append_4_0 1 rfl rfl)
theorem dJ14_append_4_2 : decode cJ14_append_4 2 = .ok (.invokespecial 41, 3) := dk_183 0 41 (dk_at dksJ14_append_4_0 2 rfl rfl)
theorem dJ14_append_4_5 : decode cJ14_append_4 5 = .ok (.pop, 1) := dk_87 (dk_at dksJ14_append_4_0 5 rfl rfl)
theorem dJ14_append_4_6 : decode cJ14_append_4 6 = .ok (.aload_n 0, 1) := dk_42 (dk_at dksJ14_append_4_0 6 rfl rfl)
theorem dJ14_append_4_7 : decode cJ14_append_4 7 = .ok (.areturn, 1) := dk_176 (dk_at dksJ14_append_4_0 7 rfl rfl)
abbrev iJ14_append_4 : xM := (yJ14_append_4, cJ14_append_4, 2, (some (.object "java/lang/StringBuilder")), [])
theorem mJ14_append_4 : xOkM iJ14_append_4 := ⟨by decide +kernel, by decide, q778, q147⟩
abbrev cJ14_append_5 : ByteArray := prog_40_method_94_code
def yJ14_append_5 : MethodName := ⟨RJ14, "append", "(C)Ljava/lang/Appendable;"⟩
def dkwJ14_append_5_0 : List UInt8 := [42, 27, 182, 1, 28, 176]
abbrev dktJ14_append_5_0 : List UInt8 := dkwJ14_append_5_0 ++ []
theorem dksJ14_append_5_0 : cJ14_append_5.data.toList.drop 0 = dktJ14_append_5_0 := by decide +kernel
theorem dJ14_append_5_0 : decode cJ14_append_5 0 = .ok (.aload_n 0, 1) := dk_42 (dk_at dksJ14_append_5_0 0 rfl rfl)
theorem dJ14_append_5_1 : decode cJ14_append_5 1 = .ok (.iload_n 1, 1) := dk_27 (dk_at dksJ14_append_5_0 1 rfl rfl)
theorem dJ14_append_5_2 : decode cJ14_append_5 2 = .ok (.invokevirtual 284, 3) := dk_182 1 28 (dk_at dksJ14_append_5_0 2 rfl rfl)
theorem dJ14_append_5_5 : decode cJ14_append_5 5 = .ok (.areturn, 1) := dk_176 (dk_at dksJ14_append_5_0 5 rfl rfl)
abbrev iJ14_append_5 : xM := (yJ14_append_5, cJ14_append_5, 2, (some (.object "java/lang/Appendable")), [])
theorem mJ14_append_5 : xOkM iJ14_append_5 := ⟨by decide +kernel, by decide, q811, q147⟩
abbrev cJ14_append_6 : ByteArray := prog_40_method_14_code
def yJ14_append_6 : MethodName := ⟨RJ14, "append", "(C)Ljava/lang/StringBuilder;"⟩
def dkwJ14_append_6_0 : List UInt8 := [42, 27, 183, 0, 50, 87, 42, 176]
abbrev dktJ14_append_6_0 : List UInt8 := dkwJ14_append_6_0 ++ []
theorem dksJ14_append_6_0 : cJ14_append_6.data.toList.drop 0 = dktJ14_append_6_0 := by decide +kernel
theorem dJ14_append_6_0 : decode cJ14_append_6 0 = .ok (.aload_n 0, 1) := dk_42 (dk_at dksJ14_append_6_0 0 rfl rfl)
theorem dJ14_append_6_1 : decode cJ14_append_6 1 = .ok (.iload_n 1, 1) := dk_27 (dk_at dksJ14_append_6_0 1 rfl rfl)
theorem dJ14_append_6_2 : decode cJ14_append_6 2 = .ok (.invokespecial 50, 3) := dk_183 0 50 (dk_at dksJ14_append_6_0 2 rfl rfl)
theorem dJ14_append_6_5 : decode cJ14_append_6 5 = .ok (.pop, 1) := dk_87 (dk_at dksJ14_append_6_0 5 rfl rfl)
theorem dJ14_append_6_6 : decode cJ14_append_6 6 = .ok (.aload_n 0, 1) := dk_42 (dk_at dksJ14_append_6_0 6 rfl rfl)
theorem dJ14_append_6_7 : decode cJ14_append_6 7 = .ok (.areturn, 1) := dk_176 (dk_at dksJ14_append_6_0 7 rfl rfl)
abbrev iJ14_append_6 : xM := (yJ14_append_6, cJ14_append_6, 2, (some (.object "java/lang/StringBuilder")), [])
theorem mJ14_append_6 : xOkM iJ14_append_6 := ⟨by decide +kernel, by decide, q815, q147⟩
abbrev cJ14_append_7 : ByteArray := prog_40_method_96_code
def yJ14_append_7 : MethodName := ⟨RJ14, "append", "(Ljava/lang/CharSequence;)Ljava/lang/Appendable;"⟩
def dkwJ14_append_7_0 : List UInt8 := [42, 43, 182, 1, 43, 176]
abbrev dktJ14_append_7_0 : List UInt8 := dkwJ14_append_7_0 ++ []
theorem dksJ14_append_7_0 : cJ14_append_7.data.toList.drop 0 = dktJ14_append_7_0 := by decide +kernel
theorem dJ14_append_7_0 : decode cJ14_append_7 0 = .ok (.aload_n 0, 1) := dk_42 (dk_at dksJ14_append_7_0 0 rfl rfl)
theorem dJ14_append_7_1 : decode cJ14_append_7 1 = .ok (.aload_n 1, 1) := dk_43 (dk_at dksJ14_append_7_0 1 rfl rfl)
theorem dJ14_append_7_2 : decode cJ14_append_7 2 = .ok (.invokevirtual 299, 3) := dk_182 1 43 (dk_at dksJ14_append_7_0 2 rfl rfl)
theorem dJ14_append_7_5 : decode cJ14_append_7 5 = .ok (.areturn, 1) := dk_176 (dk_at dksJ14_append_7_0 5 rfl rfl)
abbrev iJ14_append_7 : xM := (yJ14_append_7, cJ14_append_7, 2, (some (.object "java/lang/Appendable")), [])
theorem mJ14_append_7 : xOkM iJ14_append_7 := ⟨by decide +kernel, by decide, q840, q147⟩
abbrev cJ14_append_8 : ByteArray := prog_40_method_9_code
def yJ14_append_8 : MethodName := ⟨RJ14, "append", "(Ljava/lang/CharSequence;)Ljava/lang/StringBuilder;"⟩
def dkwJ14_append_8_0 : List UInt8 := [42, 43, 183, 0, 35, 87, 42, 176]
abbrev dktJ14_append_8_0 : List UInt8 := dkwJ14_append_8_0 ++ []
theorem dksJ14_append_8_0 : cJ14_append_8.data.toList.drop 0 = dktJ14_append_8_0 := by decide +kernel
theorem dJ14_append_8_0 : decode cJ14_append_8 0 = .ok (.aload_n 0, 1) := dk_42 (dk_at dksJ14_append_8_0 0 rfl rfl)
theorem dJ14_append_8_1 : decode cJ14_append_8 1 = .ok (.aload_n 1, 1) := dk_43 (dk_at dksJ14_append_8_0 1 rfl rfl)
theorem dJ14_append_8_2 : decode cJ14_append_8 2 = .ok (.invokespecial 35, 3) := dk_183 0 35 (dk_at dksJ14_append_8_0 2 rfl rfl)
theorem dJ14_append_8_5 : decode cJ14_append_8 5 = .ok (.pop, 1) := dk_87 (dk_at dksJ14_append_8_0 5 rfl rfl)
theorem dJ14_append_8_6 : decode cJ14_append_8 6 = .ok (.aload_n 0, 1) := dk_42 (dk_at dksJ14_append_8_0 6 rfl rfl)
theorem dJ14_append_8_7 : decode cJ14_append_8 7 = .ok (.areturn, 1) := dk_176 (dk_at dksJ14_append_8_0 7 rfl rfl)
abbrev iJ14_append_8 : xM := (yJ14_append_8, cJ14_append_8, 2, (some (.object "java/lang/StringBuilder")), [])
theorem mJ14_append_8 : xOkM iJ14_append_8 := ⟨by decide +kernel, by decide, q844, q147⟩
abbrev cJ14_append_9 : ByteArray := prog_40_method_80_code
def yJ14_append_9 : MethodName := ⟨RJ14, "append", "(Ljava/lang/String;)Ljava/lang/AbstractStringBuilder;"⟩
def dkwJ14_append_9_0 : List UInt8 := [42, 43, 182, 0, 23, 176]
abbrev dktJ14_append_9_0 : List UInt8 := dkwJ14_append_9_0 ++ []
theorem dksJ14_append_9_0 : cJ14_append_9.data.toList.drop 0 = dktJ14_append_9_0 := by decide +kernel
theorem dJ14_append_9_0 : decode cJ14_append_9 0 = .ok (.aload_n 0, 1) := dk_42 (dk_at dksJ14_append_9_0 0 rfl rfl)
theorem dJ14_append_9_1 : decode cJ14_append_9 1 = .ok (.aload_n 1, 1) := dk_43 (dk_at dksJ14_append_9_0 1 rfl rfl)
theorem dJ14_append_9_2 : decode cJ14_append_9 2 = .ok (.invokevirtual 23, 3) := dk_182 0 23 (dk_at dksJ14_append_9_0 2 rfl rfl)
theorem dJ14_append_9_5 : decode cJ14_append_9 5 = .ok (.areturn, 1) := dk_176 (dk_at dksJ14_append_9_0 5 rfl rfl)
abbrev iJ14_append_9 : xM := (yJ14_append_9, cJ14_append_9, 2, (some (.object "java/lang/AbstractStringBuilder")), [])
theorem mJ14_append_9 : xOkM iJ14_append_9 := ⟨by decide +kernel, by decide, q851, q147⟩
abbrev cJ14_append_10 : ByteArray := prog_40_method_77_code
def yJ14_append_10 : MethodName := ⟨RJ14, "append", "(Ljava/lang/CharSequence;II)Ljava/lang/AbstractStringBuilder;"⟩
def dkwJ14_append_10_0 : List UInt8 := [42, 43, 28, 29, 182, 1, 40, 176]
abbrev dktJ14_append_10_0 : List UInt8 := dkwJ14_append_10_0 ++ []
theorem dksJ14_append_10_0 : cJ14_append_10.data.toList.drop 0 = dktJ14_append_10_0 := by decide +kernel
theorem dJ14_append_10_0 : decode cJ14_append_10 0 = .ok (.aload_n 0, 1) := dk_42 (dk_at dksJ14_append_10_0 0 rfl rfl)
theorem dJ14_append_10_1 : decode cJ14_append_10 1 = .ok (.aload_n 1, 1) := dk_43 (dk_at dksJ14_append_10_0 1 rfl rfl)
theorem dJ14_append_10_2 : decode cJ14_append_10 2 = .ok (.iload_n 2, 1) := dk_28 (dk_at dksJ14_append_10_0 2 rfl rfl)
theorem dJ14_append_10_3 : decode cJ14_append_10 3 = .ok (.iload_n 3, 1) := dk_29 (dk_at dksJ14_append_10_0 3 rfl rfl)
theorem dJ14_append_10_4 : decode cJ14_append_10 4 = .ok (.invokevirtual 296, 3) := dk_182 1 40 (dk_at dksJ14_append_10_0 4 rfl rfl)
theorem dJ14_append_10_7 : decode cJ14_append_10 7 = .ok (.areturn, 1) := dk_176 (dk_at dksJ14_append_10_0 7 rfl rfl)
abbrev iJ14_append_10 : xM := (yJ14_append_10, cJ14_append_10, 4, (some (.object "java/lang/AbstractStringBuilder")), [])
theorem mJ14_append_10 : xOkM iJ14_append_10 := ⟨by decide +kernel, by decide, q892, q147⟩
abbrev cJ14_append_11 : ByteArray := prog_40_method_10_code
def yJ14_append_11 : MethodName := ⟨RJ14, "append", "(Ljava/lang/CharSequence;II)Ljava/lang/StringBuilder;"⟩
def dkwJ14_append_11_0 : List UInt8 := [42, 43, 28, 29, 183, 0, 38, 87, 42, 176]
abbrev dktJ14_append_11_0 : List UInt8 := dkwJ14_append_11_0 ++ []
theorem dksJ14_append_11_0 : cJ14_append_11.data.toList.drop 0 = dktJ14_append_11_0 := by decide +kernel
theorem dJ14_append_11_0 : decode cJ14_append_11 0 = .ok (.aload_n 0, 1) := dk_42 (dk_at dksJ14_append_11_0 0 rfl rfl)
theorem dJ14_append_11_1 : decode cJ14_append_11 1 = .ok (.aload_n 1, 1) := dk_43 (dk_at dksJ14_append_11_0 1 rfl rfl)
theorem dJ14_append_11_2 : decode cJ14_append_11 2 = .ok (.iload_n 2, 1) := dk_28 (dk_at dksJ14_append_11_0 2 rfl rfl)
theorem dJ14_append_11_3 : decode cJ14_append_11 3 = .ok (.iload_n 3, 1) := dk_29 (dk_at dksJ14_append_11_0 3 rfl rfl)
theorem dJ14_append_11_4 : decode cJ14_append_11 4 = .ok (.invokespecial 38, 3) := dk_183 0 38 (dk_at dksJ14_append_11_0 4 rfl rfl)
theorem dJ14_append_11_7 : decode cJ14_append_11 7 = .ok (.pop, 1) := dk_87 (dk_at dksJ14_append_11_0 7 rfl rfl)
theorem dJ14_append_11_8 : decode cJ14_append_11 8 = .ok (.aload_n 0, 1) := dk_42 (dk_at dksJ14_append_11_0 8 rfl rfl)
theorem dJ14_append_11_9 : decode cJ14_append_11 9 = .ok (.areturn, 1) := dk_176 (dk_at dksJ14_append_11_0 9 rfl rfl)
abbrev iJ14_append_11 : xM := (yJ14_append_11, cJ14_append_11, 4, (some (.object "java/lang/StringBuilder")), [])
theorem mJ14_append_11 : xOkM iJ14_append_11 := ⟨by decide +kernel, by decide, q896, q147⟩
abbrev cJ14_charAt : ByteArray := prog_40_method_88_code
def yJ14_charAt : MethodName := ⟨RJ14, "charAt", "(I)C"⟩
def dkwJ14_charAt_0 : List UInt8 := [42, 27, 183, 1, 73, 172]
abbrev dktJ14_charAt_0 : List UInt8 := dkwJ14_charAt_0 ++ []
theorem dksJ14_charAt_0 : cJ14_charAt.data.toList.drop 0 = dktJ14_charAt_0 := by decide +kernel
theorem dJ14_charAt_0 : decode cJ14_charAt 0 = .ok (.aload_n 0, 1) := dk_42 (dk_at dksJ14_charAt_0 0 rfl rfl)
theorem dJ14_charAt_1 : decode cJ14_charAt 1 = .ok (.iload_n 1, 1) := dk_27 (dk_at dksJ14_charAt_0 1 rfl rfl)
theorem dJ14_charAt_2 : decode cJ14_charAt 2 = .ok (.invokespecial 329, 3) := dk_183 1 73 (dk_at dksJ14_charAt_0 2 rfl rfl)
theorem dJ14_charAt_5 : decode cJ14_charAt 5 = .ok (.ireturn, 1) := dk_172 (dk_at dksJ14_charAt_0 5 rfl rfl)
abbrev iJ14_charAt : xM := (yJ14_charAt, cJ14_charAt, 2, (some .char), [])
theorem mJ14_charAt : xOkM iJ14_charAt := ⟨by decide +kernel, by decide, q941, q147⟩
abbrev cJ14_compareTo : ByteArray := prog_40_method_97_code
def yJ14_compareTo : MethodName := ⟨RJ14, "compareTo", "(Ljava/lang/Object;)I"⟩
def dkwJ14_compareTo_0 : List UInt8 := [42, 43, 192, 0, 24, 182, 1, 90, 172]
abbrev dktJ14_compareTo_0 : List UInt8 := dkwJ14_compareTo_0 ++ []
theorem dksJ14_compareTo_0 : cJ14_compareTo.data.toList.drop 0 = dktJ14_compareTo_0 := by decide +kernel
theorem dJ14_compareTo_0 : decode cJ14_compareTo 0 = .ok (.aload_n 0, 1) := dk_42 (dk_at dksJ14_compareTo_0 0 rfl rfl)
theorem dJ14_compareTo_1 : decode cJ14_compareTo 1 = .ok (.aload_n 1, 1) := dk_43 (dk_at dksJ14_compareTo_0 1 rfl rfl)
theorem dJ14_compareTo_2 : decode cJ14_compareTo 2 = .ok (.checkcast 24, 3) := dk_192 0 24 (dk_at dksJ14_compareTo_0 2 rfl rfl)
theorem dJ14_compareTo_5 : decode cJ14_compareTo 5 = .ok (.invokevirtual 346, 3) := dk_182 1 90 (dk_at dksJ14_compareTo_0 5 rfl rfl)
theorem dJ14_compareTo_8 : decode cJ14_compareTo 8 = .ok (.ireturn, 1) := dk_172 (dk_at dksJ14_compareTo_0 8 rfl rfl)
abbrev iJ14_compareTo : xM := (yJ14_compareTo, cJ14_compareTo, 2, (some .int), [])
theorem mJ14_compareTo : xOkM iJ14_compareTo := ⟨by decide +kernel, by decide, q1742, q147⟩
abbrev cJ14_compareTo_2 : ByteArray := prog_40_method_5_code
def yJ14_compareTo_2 : MethodName := ⟨RJ14, "compareTo", "(Ljava/lang/StringBuilder;)I"⟩
def dkwJ14_compareTo_2_0 : List UInt8 := [42, 43, 183, 0, 13, 172]
abbrev dktJ14_compareTo_2_0 : List UInt8 := dkwJ14_compareTo_2_0 ++ []
theorem dksJ14_compareTo_2_0 : cJ14_compareTo_2.data.toList.drop 0 = dktJ14_compareTo_2_0 := by decide +kernel
theorem dJ14_compareTo_2_0 : decode cJ14_compareTo_2 0 = .ok (.aload_n 0, 1) := dk_42 (dk_at dksJ14_compareTo_2_0 0 rfl rfl)
theorem dJ14_compareTo_2_1 : decode cJ14_compareTo_2 1 = .ok (.aload_n 1, 1) := dk_43 (dk_at dksJ14_compareTo_2_0 1 rfl rfl)
theorem dJ14_compareTo_2_2 : decode cJ14_compareTo_2 2 = .ok (.invokespecial 13, 3) := dk_183 0 13 (dk_at dksJ14_compareTo_2_0 2 rfl rfl)
theorem dJ14_compareTo_2_5 : decode cJ14_compareTo_2 5 = .ok (.ireturn, 1) := dk_172 (dk_at dksJ14_compareTo_2_0 5 rfl rfl)
abbrev iJ14_compareTo_2 : xM := (yJ14_compareTo_2, cJ14_compareTo_2, 2, (some .int), [])
theorem mJ14_compareTo_2 : xOkM iJ14_compareTo_2 := ⟨by decide +kernel, by decide, q1747, q147⟩
abbrev cJ14_setLength : ByteArray := prog_40_method_89_code
def yJ14_setLength : MethodName := ⟨RJ14, "setLength", "(I)V"⟩
def dkwJ14_setLength_0 : List UInt8 := [42, 27, 183, 1, 77, 177]
abbrev dktJ14_setLength_0 : List UInt8 := dkwJ14_setLength_0 ++ []
theorem dksJ14_setLength_0 : cJ14_setLength.data.toList.drop 0 = dktJ14_setLength_0 := by decide +kernel
theorem dJ14_setLength_0 : decode cJ14_setLength 0 = .ok (.aload_n 0, 1) := dk_42 (dk_at dksJ14_setLength_0 0 rfl rfl)
theorem dJ14_setLength_1 : decode cJ14_setLength 1 = .ok (.iload_n 1, 1) := dk_27 (dk_at dksJ14_setLength_0 1 rfl rfl)
theorem dJ14_setLength_2 : decode cJ14_setLength 2 = .ok (.invokespecial 333, 3) := dk_183 1 77 (dk_at dksJ14_setLength_0 2 rfl rfl)
theorem dJ14_setLength_5 : decode cJ14_setLength 5 = .ok (.return_, 1) := dk_177 (dk_at dksJ14_setLength_0 5 rfl rfl)
abbrev iJ14_setLength : xM := (yJ14_setLength, cJ14_setLength, 2, none, [])
theorem mJ14_setLength : xOkM iJ14_setLength := ⟨by decide +kernel, by decide, q3152, q147⟩
abbrev cJ15_checkBoundsBeginEnd : ByteArray := prog_38_method_158_code
def yJ15_checkBoundsBeginEnd : MethodName := ⟨RJ15, "checkBoundsBeginEnd", "(III)V"⟩
def dkwJ15_checkBoundsBeginEnd_0 : List UInt8 := [26, 27, 28, 178, 4, 29, 184, 4, 38, 87, 177]
abbrev dktJ15_checkBoundsBeginEnd_0 : List UInt8 := dkwJ15_checkBoundsBeginEnd_0 ++ []
theorem dksJ15_checkBoundsBeginEnd_0 : cJ15_checkBoundsBeginEnd.data.toList.drop 0 = dktJ15_checkBoundsBeginEnd_0 := by decide +kernel
theorem dJ15_checkBoundsBeginEnd_0 : decode cJ15_checkBoundsBeginEnd 0 = .ok (.iload_n 0, 1) := dk_26 (dk_at dksJ15_checkBoundsBeginEnd_0 0 rfl rfl)
theorem dJ15_checkBoundsBeginEnd_1 : decode cJ15_checkBoundsBeginEnd 1 = .ok (.iload_n 1, 1) := dk_27 (dk_at dksJ15_checkBoundsBeginEnd_0 1 rfl rfl)
theorem dJ15_checkBoundsBeginEnd_2 : decode cJ15_checkBoundsBeginEnd 2 = .ok (.iload_n 2, 1) := dk_28 (dk_at dksJ15_checkBoundsBeginEnd_0 2 rfl rfl)
theorem dJ15_checkBoundsBeginEnd_3 : decode cJ15_checkBoundsBeginEnd 3 = .ok (.getstatic 1053, 3) := dk_178 4 29 (dk_at dksJ15_checkBoundsBeginEnd_0 3 rfl rfl)
theorem dJ15_checkBoundsBeginEnd_6 : decode cJ15_checkBoundsBeginEnd 6 = .ok (.invokestatic 1062, 3) := dk_184 4 38 (dk_at dksJ15_checkBoundsBeginEnd_0 6 rfl rfl)
theorem dJ15_checkBoundsBeginEnd_9 : decode cJ15_checkBoundsBeginEnd 9 = .ok (.pop, 1) := dk_87 (dk_at dksJ15_checkBoundsBeginEnd_0 9 rfl rfl)
theorem dJ15_checkBoundsBeginEnd_10 : decode cJ15_checkBoundsBeginEnd 10 = .ok (.return_, 1) := dk_177 (dk_at dksJ15_checkBoundsBeginEnd_0 10 rfl rfl)
abbrev iJ15_checkBoundsBeginEnd : xM := (yJ15_checkBoundsBeginEnd, cJ15_checkBoundsBeginEnd, 3, none, [])
theorem mJ15_checkBoundsBeginEnd : xOkM iJ15_checkBoundsBeginEnd := ⟨by decide +kernel, by decide, q471, q148⟩
abbrev cJ15_length : ByteArray := prog_38_method_54_code
def yJ15_length : MethodName := ⟨RJ15, "length", "()I"⟩
def dkwJ15_length_0 : List UInt8 := [42, 180, 0, 9, 190, 42, 182, 1, 79, 122, 172]
abbrev dktJ15_length_0 : List UInt8 := dkwJ15_length_0 ++ []
theorem dksJ15_length_0 : cJ15_length.data.toList.drop 0 = dktJ15_length_0 := by decide +kernel
theorem dJ15_length_0 : decode cJ15_length 0 = .ok (.aload_n 0, 1) := dk_42 (dk_at dksJ15_length_0 0 rfl rfl)
theorem dJ15_length_1 : decode cJ15_length 1 = .ok (.getfield 9, 3) := dk_180 0 9 (dk_at dksJ15_length_0 1 rfl rfl)
theorem dJ15_length_4 : decode cJ15_length 4 = .ok (.arraylength, 1) := dk_190 (dk_at dksJ15_length_0 4 rfl rfl)
theorem dJ15_length_5 : decode cJ15_length 5 = .ok (.aload_n 0, 1) := dk_42 (dk_at dksJ15_length_0 5 rfl rfl)
theorem dJ15_length_6 : decode cJ15_length 6 = .ok (.invokevirtual 335, 3) := dk_182 1 79 (dk_at dksJ15_length_0 6 rfl rfl)
theorem dJ15_length_9 : decode cJ15_length 9 = .ok (.ishr, 1) := dk_122 (dk_at dksJ15_length_0 9 rfl rfl)
theorem dJ15_length_10 : decode cJ15_length 10 = .ok (.ireturn, 1) := dk_172 (dk_at dksJ15_length_0 10 rfl rfl)
abbrev iJ15_length : xM := (yJ15_length, cJ15_length, 1, (some .int), [])
theorem mJ15_length : xOkM iJ15_length := ⟨by decide +kernel, by decide, q489, q148⟩
abbrev cJ15_coder : ByteArray := prog_38_method_152_code
def yJ15_coder : MethodName := ⟨RJ15, "coder", "()B"⟩
def dkwJ15_coder_0 : List UInt8 := [178, 0, 38, 153, 0, 10, 42, 180, 0, 15, 167, 0, 4, 4, 172]
abbrev dktJ15_coder_0 : List UInt8 := dkwJ15_coder_0 ++ []
theorem dksJ15_coder_0 : cJ15_coder.data.toList.drop 0 = dktJ15_coder_0 := by decide +kernel
theorem dJ15_coder_0 : decode cJ15_coder 0 = .ok (.getstatic 38, 3) := dk_178 0 38 (dk_at dksJ15_coder_0 0 rfl rfl)
theorem dJ15_coder_3 : decode cJ15_coder 3 = .ok (.ifCond .eq 10, 3) := dk_153 0 10 (dk_at dksJ15_coder_0 3 rfl rfl)
theorem dJ15_coder_6 : decode cJ15_coder 6 = .ok (.aload_n 0, 1) := dk_42 (dk_at dksJ15_coder_0 6 rfl rfl)
theorem dJ15_coder_7 : decode cJ15_coder 7 = .ok (.getfield 15, 3) := dk_180 0 15 (dk_at dksJ15_coder_0 7 rfl rfl)
theorem dJ15_coder_10 : decode cJ15_coder 10 = .ok (.goto 4, 3) := dk_167 0 4 (dk_at dksJ15_coder_0 10 rfl rfl)
theorem dJ15_coder_13 : decode cJ15_coder 13 = .ok (.iconst 1, 1) := dk_4 (dk_at dksJ15_coder_0 13 rfl rfl)
theorem dJ15_coder_14 : decode cJ15_coder 14 = .ok (.ireturn, 1) := dk_172 (dk_at dksJ15_coder_0 14 rfl rfl)
abbrev iJ15_coder : xM := (yJ15_coder, cJ15_coder, 1, (some .byte), [])
theorem mJ15_coder : xOkM iJ15_coder := ⟨by decide +kernel, by decide, q493, q148⟩
abbrev cJ15_checkBoundsOffCount : ByteArray := prog_38_method_157_code
def yJ15_checkBoundsOffCount : MethodName := ⟨RJ15, "checkBoundsOffCount", "(III)I"⟩
def dkwJ15_checkBoundsOffCount_0 : List UInt8 := [26, 27, 28, 178, 4, 29, 184, 4, 41, 172]
abbrev dktJ15_checkBoundsOffCount_0 : List UInt8 := dkwJ15_checkBoundsOffCount_0 ++ []
theorem dksJ15_checkBoundsOffCount_0 : cJ15_checkBoundsOffCount.data.toList.drop 0 = dktJ15_checkBoundsOffCount_0 := by decide +kernel
theorem dJ15_checkBoundsOffCount_0 : decode cJ15_checkBoundsOffCount 0 = .ok (.iload_n 0, 1) := dk_26 (dk_at dksJ15_checkBoundsOffCount_0 0 rfl rfl)
theorem dJ15_checkBoundsOffCount_1 : decode cJ15_checkBoundsOffCount 1 = .ok (.iload_n 1, 1) := dk_27 (dk_at dksJ15_checkBoundsOffCount_0 1 rfl rfl)
theorem dJ15_checkBoundsOffCount_2 : decode cJ15_checkBoundsOffCount 2 = .ok (.iload_n 2, 1) := dk_28 (dk_at dksJ15_checkBoundsOffCount_0 2 rfl rfl)
theorem dJ15_checkBoundsOffCount_3 : decode cJ15_checkBoundsOffCount 3 = .ok (.getstatic 1053, 3) := dk_178 4 29 (dk_at dksJ15_checkBoundsOffCount_0 3 rfl rfl)
theorem dJ15_checkBoundsOffCount_6 : decode cJ15_checkBoundsOffCount 6 = .ok (.invokestatic 1065, 3) := dk_184 4 41 (dk_at dksJ15_checkBoundsOffCount_0 6 rfl rfl)
theorem dJ15_checkBoundsOffCount_9 : decode cJ15_checkBoundsOffCount 9 = .ok (.ireturn, 1) := dk_172 (dk_at dksJ15_checkBoundsOffCount_0 9 rfl rfl)
abbrev iJ15_checkBoundsOffCount : xM := (yJ15_checkBoundsOffCount, cJ15_checkBoundsOffCount, 3, (some .int), [])
theorem mJ15_checkBoundsOffCount : xOkM iJ15_checkBoundsOffCount := ⟨by decide +kernel, by decide, q519, q148⟩
abbrev cJ15_getBytes : ByteArray := prog_38_method_147_code
def yJ15_getBytes : MethodName := ⟨RJ15, "getBytes", "([BIB)V"⟩
def dkwJ15_getBytes_1 : List UInt8 := [184, 0, 212, 167, 0, 18, 42, 180, 0, 9, 3, 43, 28, 42, 180, 0, 9, 190, 184, 0, 106, 177]
abbrev dktJ15_getBytes_1 : List UInt8 := dkwJ15_getBytes_1 ++ []
def dkwJ15_getBytes_0 : List UInt8 := [42, 182, 1, 79, 29, 160, 0, 23, 42, 180, 0, 9, 3, 43, 28, 29, 120, 42, 180, 0, 9, 190]
abbrev dktJ15_getBytes_0 : List UInt8 := dkwJ15_getBytes_0 ++ dktJ15_getBytes_1
theorem dksJ15_getBytes_0 : cJ15_getBytes.data.toList.drop 0 = dktJ15_getBytes_0 := by decide +kernel
theorem dksJ15_getBytes_1 : cJ15_getBytes.data.toList.drop 22 = dktJ15_getBytes_1 := dk_seg dksJ15_getBytes_0 22 rfl rfl
theorem dJ15_getBytes_0 : decode cJ15_getBytes 0 = .ok (.aload_n 0, 1) := dk_42 (dk_at dksJ15_getBytes_0 0 rfl rfl)
theorem dJ15_getBytes_1 : decode cJ15_getBytes 1 = .ok (.invokevirtual 335, 3) := dk_182 1 79 (dk_at dksJ15_getBytes_0 1 rfl rfl)
theorem dJ15_getBytes_4 : decode cJ15_getBytes 4 = .ok (.iload_n 3, 1) := dk_29 (dk_at dksJ15_getBytes_0 4 rfl rfl)
theorem dJ15_getBytes_5 : decode cJ15_getBytes 5 = .ok (.if_icmp .ne 23, 3) := dk_160 0 23 (dk_at dksJ15_getBytes_0 5 rfl rfl)
theorem dJ15_getBytes_8 : decode cJ15_getBytes 8 = .ok (.aload_n 0, 1) := dk_42 (dk_at dksJ15_getBytes_0 8 rfl rfl)
theorem dJ15_getBytes_9 : decode cJ15_getBytes 9 = .ok (.getfield 9, 3) := dk_180 0 9 (dk_at dksJ15_getBytes_0 9 rfl rfl)
theorem dJ15_getBytes_12 : decode cJ15_getBytes 12 = .ok (.iconst 0, 1) := dk_3 (dk_at dksJ15_getBytes_0 12 rfl rfl)
theorem dJ15_getBytes_13 : decode cJ15_getBytes 13 = .ok (.aload_n 1, 1) := dk_43 (dk_at dksJ15_getBytes_0 13 rfl rfl)
theorem dJ15_getBytes_14 : decode cJ15_getBytes 14 = .ok (.iload_n 2, 1) := dk_28 (dk_at dksJ15_getBytes_0 14 rfl rfl)
theorem dJ15_getBytes_15 : decode cJ15_getBytes 15 = .ok (.iload_n 3, 1) := dk_29 (dk_at dksJ15_getBytes_0 15 rfl rfl)
theorem dJ15_getBytes_16 : decode cJ15_getBytes 16 = .ok (.ishl, 1) := dk_120 (dk_at dksJ15_getBytes_0 16 rfl rfl)
theorem dJ15_getBytes_17 : decode cJ15_getBytes 17 = .ok (.aload_n 0, 1) := dk_42 (dk_at dksJ15_getBytes_0 17 rfl rfl)
theorem dJ15_getBytes_18 : decode cJ15_getBytes 18 = .ok (.getfield 9, 3) := dk_180 0 9 (dk_at dksJ15_getBytes_0 18 rfl rfl)
theorem dJ15_getBytes_21 : decode cJ15_getBytes 21 = .ok (.arraylength, 1) := dk_190 (dk_at dksJ15_getBytes_0 21 rfl rfl)
theorem dJ15_getBytes_22 : decode cJ15_getBytes 22 = .ok (.invokestatic 212, 3) := dk_184 0 212 (dk_at dksJ15_getBytes_1 0 rfl rfl)
theorem dJ15_getBytes_25 : decode cJ15_getBytes 25 = .ok (.goto 18, 3) := dk_167 0 18 (dk_at dksJ15_getBytes_1 3 rfl rfl)
theorem dJ15_getBytes_28 : decode cJ15_getBytes 28 = .ok (.aload_n 0, 1) := dk_42 (dk_at dksJ15_getBytes_1 6 rfl rfl)
theorem dJ15_getBytes_29 : decode cJ15_getBytes 29 = .ok (.getfield 9, 3) := dk_180 0 9 (dk_at dksJ15_getBytes_1 7 rfl rfl)
theorem dJ15_getBytes_32 : decode cJ15_getBytes 32 = .ok (.iconst 0, 1) := dk_3 (dk_at dksJ15_getBytes_1 10 rfl rfl)
theorem dJ15_getBytes_33 : decode cJ15_getBytes 33 = .ok (.aload_n 1, 1) := dk_43 (dk_at dksJ15_getBytes_1 11 rfl rfl)
theorem dJ15_getBytes_34 : decode cJ15_getBytes 34 = .ok (.iload_n 2, 1) := dk_28 (dk_at dksJ15_getBytes_1 12 rfl rfl)
theorem dJ15_getBytes_35 : decode cJ15_getBytes 35 = .ok (.aload_n 0, 1) := dk_42 (dk_at dksJ15_getBytes_1 13 rfl rfl)
theorem dJ15_getBytes_36 : decode cJ15_getBytes 36 = .ok (.getfield 9, 3) := dk_180 0 9 (dk_at dksJ15_getBytes_1 14 rfl rfl)
theorem dJ15_getBytes_39 : decode cJ15_getBytes 39 = .ok (.arraylength, 1) := dk_190 (dk_at dksJ15_getBytes_1 17 rfl rfl)
theorem dJ15_getBytes_40 : decode cJ15_getBytes 40 = .ok (.invokestatic 106, 3) := dk_184 0 106 (dk_at dksJ15_getBytes_1 18 rfl rfl)
theorem dJ15_getBytes_43 : decode cJ15_getBytes 43 = .ok (.return_, 1) := dk_177 (dk_at dksJ15_getBytes_1 21 rfl rfl)
abbrev iJ15_getBytes : xM := (yJ15_getBytes, cJ15_getBytes, 4, none, [])
theorem mJ15_getBytes : xOkM iJ15_getBytes := ⟨by decide +kernel, by decide, q526, q148⟩
abbrev cJ15_init : ByteArray := prog_38_method_53_code
def yJ15_init : MethodName := ⟨RJ15, "<init>", "(Ljava/lang/StringBuilder;)V"⟩
def dkwJ15_init_0 : List UInt8 := [42, 43, 1, 183, 1, 233, 177]
abbrev dktJ15_init_0 : List UInt8 := dkwJ15_init_0 ++ []
theorem dksJ15_init_0 : cJ15_init.data.toList.drop 0 = dktJ15_init_0 := by decide +kernel
theorem dJ15_init_0 : decode cJ15_init 0 = .ok (.aload_n 0, 1) := dk_42 (dk_at dksJ15_init_0 0 rfl rfl)
theorem dJ15_init_1 : decode cJ15_init 1 = .ok (.aload_n 1, 1) := dk_43 (dk_at dksJ15_init_0 1 rfl rfl)
theorem dJ15_init_2 : decode cJ15_init 2 = .ok (.aconst_null, 1) := dk_1 (dk_at dksJ15_init_0 2 rfl rfl)
theorem dJ15_init_3 : decode cJ15_init 3 = .ok (.invokespecial 489, 3) := dk_183 1 233 (dk_at dksJ15_init_0 3 rfl rfl)
theorem dJ15_init_6 : decode cJ15_init 6 = .ok (.return_, 1) := dk_177 (dk_at dksJ15_init_0 6 rfl rfl)
abbrev iJ15_init : xM := (yJ15_init, cJ15_init, 2, none, [])
theorem mJ15_init : xOkM iJ15_init := ⟨by decide +kernel, by decide, q562, q148⟩
abbrev cJ15_init_2 : ByteArray := prog_38_method_150_code
def yJ15_init_2 : MethodName := ⟨RJ15, "<init>", "(Ljava/lang/AbstractStringBuilder;Ljava/lang/Void;)V"⟩
def dkwJ15_init_2_4 : List UInt8 := [181, 0, 9, 177]
abbrev dktJ15_init_2_4 : List UInt8 := dkwJ15_init_2_4 ++ []
def dkwJ15_init_2_3 : List UInt8 := [184, 0, 47, 181, 0, 15, 177, 42, 4, 181, 0, 15, 42, 45, 3, 21, 4, 4, 120, 184, 0, 54]
abbrev dktJ15_init_2_3 : List UInt8 := dkwJ15_init_2_3 ++ dktJ15_init_2_4
def dkwJ15_init_2_2 : List UInt8 := [180, 4, 24, 153, 0, 28, 42, 45, 3, 21, 4, 184, 4, 27, 181, 0, 9, 42, 42, 180, 0, 9, 21, 4]
abbrev dktJ15_init_2_2 : List UInt8 := dkwJ15_init_2_2 ++ dktJ15_init_2_3
def dkwJ15_init_2_1 : List UInt8 := [181, 0, 15, 42, 45, 3, 21, 4, 184, 0, 54, 181, 0, 9, 167, 0, 59, 178, 0, 38, 153, 0, 35, 43]
abbrev dktJ15_init_2_1 : List UInt8 := dkwJ15_init_2_1 ++ dktJ15_init_2_2
def dkwJ15_init_2_0 : List UInt8 := [42, 183, 0, 1, 43, 182, 2, 40, 78, 43, 182, 2, 37, 54, 4, 43, 182, 4, 23, 153, 0, 22, 42, 3]
abbrev dktJ15_init_2_0 : List UInt8 := dkwJ15_init_2_0 ++ dktJ15_init_2_1
theorem dksJ15_init_2_0 : cJ15_init_2.data.toList.drop 0 = dktJ15_init_2_0 := by decide +kernel
theorem dksJ15_init_2_1 : cJ15_init_2.data.toList.drop 24 = dktJ15_init_2_1 := dk_seg dksJ15_init_2_0 24 rfl rfl
theorem dksJ15_init_2_2 : cJ15_init_2.data.toList.drop 48 = dktJ15_init_2_2 := dk_seg dksJ15_init_2_1 24 rfl rfl
theorem dksJ15_init_2_3 : cJ15_init_2.data.toList.drop 72 = dktJ15_init_2_3 := dk_seg dksJ15_init_2_2 24 rfl rfl
theorem dksJ15_init_2_4 : cJ15_init_2.data.toList.drop 94 = dktJ15_init_2_4 := dk_seg dksJ15_init_2_3 22 rfl rfl
theorem dJ15_init_2_0 : decode cJ15_init_2 0 = .ok (.aload_n 0, 1) := dk_42 (dk_at dksJ15_init_2_0 0 rfl rfl)
theorem dJ15_init_2_1 : decode cJ15_init_2 1 = .ok (.invokespecial 1, 3) := dk_183 0 1 (dk_at dksJ15_init_2_0 1 rfl rfl)
theorem dJ15_init_2_4 : decode cJ15_init_2 4 = .ok (.aload_n 1, 1) := dk_43 (dk_at dksJ15_init_2_0 4 rfl rfl)
theorem dJ15_init_2_5 : decode cJ15_init_2 5 = .ok (.invokevirtual 552, 3) := dk_182 2 40 (dk_at dksJ15_init_2_0 5 rfl rfl)
theorem dJ15_init_2_8 : decode cJ15_init_2 8 = .ok (.astore_n 3, 1) := dk_78 (dk_at dksJ15_init_2_0 8 rfl rfl)
theorem dJ15_init_2_9 : decode cJ15_init_2 9 = .ok (.aload_n 1, 1) := dk_43 (dk_at dksJ15_init_2_0 9 rfl rfl)
theorem dJ15_init_2_10 : decode cJ15_init_2 10 = .ok (.invokevirtual 549, 3) := dk_182 2 37 (dk_at dksJ15_init_2_0 10 rfl rfl)
theorem dJ15_init_2_13 : decode cJ15_init_2 13 = .ok (.istore 4, 2) := dk_54 4 (dk_at dksJ15_init_2_0 13 rfl rfl)
theorem dJ15_init_2_15 : decode cJ15_init_2 15 = .ok (.aload_n 1, 1) := dk_43 (dk_at dksJ15_init_2_0 15 rfl rfl)
theorem dJ15_init_2_16 : decode cJ15_init_2 16 = .ok (.invokevirtual 1047, 3) := dk_182 4 23 (dk_at dksJ15_init_2_0 16 rfl rfl)
theorem dJ15_init_2_19 : decode cJ15_init_2 19 = .ok (.ifCond .eq 22, 3) := dk_153 0 22 (dk_at dksJ15_init_2_0 19 rfl rfl)
theorem dJ15_init_2_22 : decode cJ15_init_2 22 = .ok (.aload_n 0, 1) := dk_42 (dk_at dksJ15_init_2_0 22 rfl rfl)
theorem dJ15_init_2_23 : decode cJ15_init_2 23 = .ok (.iconst 0, 1) := dk_3 (dk_at dksJ15_init_2_0 23 rfl rfl)
theorem dJ15_init_2_24 : decode cJ15_init_2 24 = .ok (.putfield 15, 3) := dk_181 0 15 (dk_at dksJ15_init_2_1 0 rfl rfl)
theorem dJ15_init_2_27 : decode cJ15_init_2 27 = .ok (.aload_n 0, 1) := dk_42 (dk_at dksJ15_init_2_1 3 rfl rfl)
theorem dJ15_init_2_28 : decode cJ15_init_2 28 = .ok (.aload_n 3, 1) := dk_45 (dk_at dksJ15_init_2_1 4 rfl rfl)
theorem dJ15_init_2_29 : decode cJ15_init_2 29 = .ok (.iconst 0, 1) := dk_3 (dk_at dksJ15_init_2_1 5 rfl rfl)
theorem dJ15_init_2_30 : decode cJ15_init_2 30 = .ok (.iload 4, 2) := dk_21 4 (dk_at dksJ15_init_2_1 6 rfl rfl)
theorem dJ15_init_2_32 : decode cJ15_init_2 32 = .ok (.invokestatic 54, 3) := dk_184 0 54 (dk_at dksJ15_init_2_1 8 rfl rfl)
theorem dJ15_init_2_35 : decode cJ15_init_2 35 = .ok (.putfield 9, 3) := dk_181 0 9 (dk_at dksJ15_init_2_1 11 rfl rfl)
theorem dJ15_init_2_38 : decode cJ15_init_2 38 = .ok (.goto 59, 3) := dk_167 0 59 (dk_at dksJ15_init_2_1 14 rfl rfl)
theorem dJ15_init_2_41 : decode cJ15_init_2 41 = .ok (.getstatic 38, 3) := dk_178 0 38 (dk_at dksJ15_init_2_1 17 rfl rfl)
theorem dJ15_init_2_44 : decode cJ15_init_2 44 = .ok (.ifCond .eq 35, 3) := dk_153 0 35 (dk_at dksJ15_init_2_1 20 rfl rfl)
theorem dJ15_init_2_47 : decode cJ15_init_2 47 = .ok (.aload_n 1, 1) := dk_43 (dk_at dksJ15_init_2_1 23 rfl rfl)
theorem dJ15_init_2_48 : decode cJ15_init_2 48 = .ok (.getfield 1048, 3) := dk_180 4 24 (dk_at dksJ15_init_2_2 0 rfl rfl)
theorem dJ15_init_2_51 : decode cJ15_init_2 51 = .ok (.ifCond .eq 28, 3) := dk_153 0 28 (dk_at dksJ15_init_2_2 3 rfl rfl)
theorem dJ15_init_2_54 : decode cJ15_init_2 54 = .ok (.aload_n 0, 1) := dk_42 (dk_at dksJ15_init_2_2 6 rfl rfl)
theorem dJ15_init_2_55 : decode cJ15_init_2 55 = .ok (.aload_n 3, 1) := dk_45 (dk_at dksJ15_init_2_2 7 rfl rfl)
theorem dJ15_init_2_56 : decode cJ15_init_2 56 = .ok (.iconst 0, 1) := dk_3 (dk_at dksJ15_init_2_2 8 rfl rfl)
theorem dJ15_init_2_57 : decode cJ15_init_2 57 = .ok (.iload 4, 2) := dk_21 4 (dk_at dksJ15_init_2_2 9 rfl rfl)
theorem dJ15_init_2_59 : decode cJ15_init_2 59 = .ok (.invokestatic 1051, 3) := dk_184 4 27 (dk_at dksJ15_init_2_2 11 rfl rfl)
theorem dJ15_init_2_62 : decode cJ15_init_2 62 = .ok (.putfield 9, 3) := dk_181 0 9 (dk_at dksJ15_init_2_2 14 rfl rfl)
theorem dJ15_init_2_65 : decode cJ15_init_2 65 = .ok (.aload_n 0, 1) := dk_42 (dk_at dksJ15_init_2_2 17 rfl rfl)
theorem dJ15_init_2_66 : decode cJ15_init_2 66 = .ok (.aload_n 0, 1) := dk_42 (dk_at dksJ15_init_2_2 18 rfl rfl)
theorem dJ15_init_2_67 : decode cJ15_init_2 67 = .ok (.getfield 9, 3) := dk_180 0 9 (dk_at dksJ15_init_2_2 19 rfl rfl)
theorem dJ15_init_2_70 : decode cJ15_init_2 70 = .ok (.iload 4, 2) := dk_21 4 (dk_at dksJ15_init_2_2 22 rfl rfl)
theorem dJ15_init_2_72 : decode cJ15_init_2 72 = .ok (.invokestatic 47, 3) := dk_184 0 47 (dk_at dksJ15_init_2_3 0 rfl rfl)
theorem dJ15_init_2_75 : decode cJ15_init_2 75 = .ok (.putfield 15, 3) := dk_181 0 15 (dk_at dksJ15_init_2_3 3 rfl rfl)
theorem dJ15_init_2_78 : decode cJ15_init_2 78 = .ok (.return_, 1) := dk_177 (dk_at dksJ15_init_2_3 6 rfl rfl)
theorem dJ15_init_2_79 : decode cJ15_init_2 79 = .ok (.aload_n 0, 1) := dk_42 (dk_at dksJ15_init_2_3 7 rfl rfl)
theorem dJ15_init_2_80 : decode cJ15_init_2 80 = .ok (.iconst 1, 1) := dk_4 (dk_at dksJ15_init_2_3 8 rfl rfl)
theorem dJ15_init_2_81 : decode cJ15_init_2 81 = .ok (.putfield 15, 3) := dk_181 0 15 (dk_at dksJ15_init_2_3 9 rfl rfl)
theorem dJ15_init_2_84 : decode cJ15_init_2 84 = .ok (.aload_n 0, 1) := dk_42 (dk_at dksJ15_init_2_3 12 rfl rfl)
theorem dJ15_init_2_85 : decode cJ15_init_2 85 = .ok (.aload_n 3, 1) := dk_45 (dk_at dksJ15_init_2_3 13 rfl rfl)
theorem dJ15_init_2_86 : decode cJ15_init_2 86 = .ok (.iconst 0, 1) := dk_3 (dk_at dksJ15_init_2_3 14 rfl rfl)
theorem dJ15_init_2_87 : decode cJ15_init_2 87 = .ok (.iload 4, 2) := dk_21 4 (dk_at dksJ15_init_2_3 15 rfl rfl)
theorem dJ15_init_2_89 : decode cJ15_init_2 89 = .ok (.iconst 1, 1) := dk_4 (dk_at dksJ15_init_2_3 17 rfl rfl)
theorem dJ15_init_2_90 : decode cJ15_init_2 90 = .ok (.ishl, 1) := dk_120 (dk_at dksJ15_init_2_3 18 rfl rfl)
theorem dJ15_init_2_91 : decode cJ15_init_2 91 = .ok (.invokestatic 54, 3) := dk_184 0 54 (dk_at dksJ15_init_2_3 19 rfl rfl)
theorem dJ15_init_2_94 : decode cJ15_init_2 94 = .ok (.putfield 9, 3) := dk_181 0 9 (dk_at dksJ15_init_2_4 0 rfl rfl)
theorem dJ15_init_2_97 : decode cJ15_init_2 97 = .ok (.return_, 1) := dk_177 (dk_at dksJ15_init_2_4 3 rfl rfl)
abbrev iJ15_init_2 : xM := (yJ15_init_2, cJ15_init_2, 5, none, [])
theorem mJ15_init_2 : xOkM iJ15_init_2 := ⟨by decide +kernel, by decide, q565, q148⟩
abbrev cJ15_checkIndex : ByteArray := prog_38_method_155_code
def yJ15_checkIndex : MethodName := ⟨RJ15, "checkIndex", "(II)V"⟩
def dkwJ15_checkIndex_0 : List UInt8 := [26, 27, 178, 4, 29, 184, 4, 35, 87, 177]
abbrev dktJ15_checkIndex_0 : List UInt8 := dkwJ15_checkIndex_0 ++ []
theorem dksJ15_checkIndex_0 : cJ15_checkIndex.data.toList.drop 0 = dktJ15_checkIndex_0 := by decide +kernel
theorem dJ15_checkIndex_0 : decode cJ15_checkIndex 0 = .ok (.iload_n 0, 1) := dk_26 (dk_at dksJ15_checkIndex_0 0 rfl rfl)
theorem dJ15_checkIndex_1 : decode cJ15_checkIndex 1 = .ok (.iload_n 1, 1) := dk_27 (dk_at dksJ15_checkIndex_0 1 rfl rfl)
theorem dJ15_checkIndex_2 : decode cJ15_checkIndex 2 = .ok (.getstatic 1053, 3) := dk_178 4 29 (dk_at dksJ15_checkIndex_0 2 rfl rfl)
theorem dJ15_checkIndex_5 : decode cJ15_checkIndex 5 = .ok (.invokestatic 1059, 3) := dk_184 4 35 (dk_at dksJ15_checkIndex_0 5 rfl rfl)
theorem dJ15_checkIndex_8 : decode cJ15_checkIndex 8 = .ok (.pop, 1) := dk_87 (dk_at dksJ15_checkIndex_0 8 rfl rfl)
theorem dJ15_checkIndex_9 : decode cJ15_checkIndex 9 = .ok (.return_, 1) := dk_177 (dk_at dksJ15_checkIndex_0 9 rfl rfl)
abbrev iJ15_checkIndex : xM := (yJ15_checkIndex, cJ15_checkIndex, 2, none, [])
theorem mJ15_checkIndex : xOkM iJ15_checkIndex := ⟨by decide +kernel, by decide, q827, q148⟩
abbrev cJ15_isLatin1 : ByteArray := prog_38_method_154_code
def yJ15_isLatin1 : MethodName := ⟨RJ15, "isLatin1", "()Z"⟩
def dkwJ15_isLatin1_0 : List UInt8 := [178, 0, 38, 153, 0, 14, 42, 180, 0, 15, 154, 0, 7, 4, 167, 0, 4, 3, 172]
abbrev dktJ15_isLatin1_0 : List UInt8 := dkwJ15_isLatin1_0 ++ []
theorem dksJ15_isLatin1_0 : cJ15_isLatin1.data.toList.drop 0 = dktJ15_isLatin1_0 := by decide +kernel
theorem dJ15_isLatin1_0 : decode cJ15_isLatin1 0 = .ok (.getstatic 38, 3) := dk_178 0 38 (dk_at dksJ15_isLatin1_0 0 rfl rfl)
theorem dJ15_isLatin1_3 : decode cJ15_isLatin1 3 = .ok (.ifCond .eq 14, 3) := dk_153 0 14 (dk_at dksJ15_isLatin1_0 3 rfl rfl)
theorem dJ15_isLatin1_6 : decode cJ15_isLatin1 6 = .ok (.aload_n 0, 1) := dk_42 (dk_at dksJ15_isLatin1_0 6 rfl rfl)
theorem dJ15_isLatin1_7 : decode cJ15_isLatin1 7 = .ok (.getfield 15, 3) := dk_180 0 15 (dk_at dksJ15_isLatin1_0 7 rfl rfl)
theorem dJ15_isLatin1_10 : decode cJ15_isLatin1 10 = .ok (.ifCond .ne 7, 3) := dk_154 0 7 (dk_at dksJ15_isLatin1_0 10 rfl rfl)
theorem dJ15_isLatin1_13 : decode cJ15_isLatin1 13 = .ok (.iconst 1, 1) := dk_4 (dk_at dksJ15_isLatin1_0 13 rfl rfl)
theorem dJ15_isLatin1_14 : decode cJ15_isLatin1 14 = .ok (.goto 4, 3) := dk_167 0 4 (dk_at dksJ15_isLatin1_0 14 rfl rfl)
theorem dJ15_isLatin1_17 : decode cJ15_isLatin1 17 = .ok (.iconst 0, 1) := dk_3 (dk_at dksJ15_isLatin1_0 17 rfl rfl)
theorem dJ15_isLatin1_18 : decode cJ15_isLatin1 18 = .ok (.ireturn, 1) := dk_172 (dk_at dksJ15_isLatin1_0 18 rfl rfl)
abbrev iJ15_isLatin1 : xM := (yJ15_isLatin1, cJ15_isLatin1, 1, (some .boolean), [])
theorem mJ15_isLatin1 : xOkM iJ15_isLatin1 := ⟨by decide +kernel, by decide, q910, q148⟩
abbrev cJ15_value : ByteArray := prog_38_method_153_code
def yJ15_value : MethodName := ⟨RJ15, "value", "()[B"⟩
theorem dJ15_value_0 : decode cJ15_value 0 = .ok (.aload_n 0, 1) := by decide +kernel
theorem dJ15_value_1 : decode cJ15_value 1 = .ok (.getfield 9, 3) := by decide +kernel
theorem dJ15_value_4 : decode cJ15_value 4 = .ok (.areturn, 1) := by decide +kernel
abbrev iJ15_value : xM := (yJ15_value, cJ15_value, 1, (some (.array .byte)), [])
theorem mJ15_value : xOkM iJ15_value := ⟨by decide +kernel, by decide, q914, q148⟩
abbrev cJ15_charAt : ByteArray := prog_38_method_56_code
def yJ15_charAt : MethodName := ⟨RJ15, "charAt", "(I)C"⟩
def dkwJ15_charAt_1 : List UInt8 := [172]
abbrev dktJ15_charAt_1 : List UInt8 := dkwJ15_charAt_1 ++ []
def dkwJ15_charAt_0 : List UInt8 := [42, 182, 1, 236, 153, 0, 12, 42, 180, 0, 9, 27, 184, 1, 239, 172, 42, 180, 0, 9, 27, 184, 1, 242]
abbrev dktJ15_charAt_0 : List UInt8 := dkwJ15_charAt_0 ++ dktJ15_charAt_1
theorem dksJ15_charAt_0 : cJ15_charAt.data.toList.drop 0 = dktJ15_charAt_0 := by decide +kernel
theorem dksJ15_charAt_1 : cJ15_charAt.data.toList.drop 24 = dktJ15_charAt_1 := dk_seg dksJ15_charAt_0 24 rfl rfl
theorem dJ15_charAt_0 : decode cJ15_charAt 0 = .ok (.aload_n 0, 1) := dk_42 (dk_at dksJ15_charAt_0 0 rfl rfl)
theorem dJ15_charAt_1 : decode cJ15_charAt 1 = .ok (.invokevirtual 492, 3) := dk_182 1 236 (dk_at dksJ15_charAt_0 1 rfl rfl)
theorem dJ15_charAt_4 : decode cJ15_charAt 4 = .ok (.ifCond .eq 12, 3) := dk_153 0 12 (dk_at dksJ15_charAt_0 4 rfl rfl)
theorem dJ15_charAt_7 : decode cJ15_charAt 7 = .ok (.aload_n 0, 1) := dk_42 (dk_at dksJ15_charAt_0 7 rfl rfl)
theorem dJ15_charAt_8 : decode cJ15_charAt 8 = .ok (.getfield 9, 3) := dk_180 0 9 (dk_at dksJ15_charAt_0 8 rfl rfl)
theorem dJ15_charAt_11 : decode cJ15_charAt 11 = .ok (.iload_n 1, 1) := dk_27 (dk_at dksJ15_charAt_0 11 rfl rfl)
theorem dJ15_charAt_12 : decode cJ15_charAt 12 = .ok (.invokestatic 495, 3) := dk_184 1 239 (dk_at dksJ15_charAt_0 12 rfl rfl)
theorem dJ15_charAt_15 : decode cJ15_charAt 15 = .ok (.ireturn, 1) := dk_172 (dk_at dksJ15_charAt_0 15 rfl rfl)
theorem dJ15_charAt_16 : decode cJ15_charAt 16 = .ok (.aload_n 0, 1) := dk_42 (dk_at dksJ15_charAt_0 16 rfl rfl)
theorem dJ15_charAt_17 : decode cJ15_charAt 17 = .ok (.getfield 9, 3) := dk_180 0 9 (dk_at dksJ15_charAt_0 17 rfl rfl)
theorem dJ15_charAt_20 : decode cJ15_charAt 20 = .ok (.iload_n 1, 1) := dk_27 (dk_at dksJ15_charAt_0 20 rfl rfl)
theorem dJ15_charAt_21 : decode cJ15_charAt 21 = .ok (.invokestatic 498, 3) := dk_184 1 242 (dk_at dksJ15_charAt_0 21 rfl rfl)
theorem dJ15_charAt_24 : decode cJ15_charAt 24 = .ok (.ireturn, 1) := dk_172 (dk_at dksJ15_charAt_1 0 rfl rfl)
abbrev iJ15_charAt : xM := (yJ15_charAt, cJ15_charAt, 2, (some .char), [])
theorem mJ15_charAt : xOkM iJ15_charAt := ⟨by decide +kernel, by decide, q918, q148⟩
abbrev cJ15_valueOf : ByteArray := prog_38_method_133_code
def yJ15_valueOf : MethodName := ⟨RJ15, "valueOf", "(Ljava/lang/Object;)Ljava/lang/String;"⟩
def dkwJ15_valueOf_0 : List UInt8 := [42, 199, 0, 9, 19, 3, 237, 167, 0, 7, 42, 182, 3, 239, 176]
abbrev dktJ15_valueOf_0 : List UInt8 := dkwJ15_valueOf_0 ++ []
theorem dksJ15_valueOf_0 : cJ15_valueOf.data.toList.drop 0 = dktJ15_valueOf_0 := by decide +kernel
theorem dJ15_valueOf_0 : decode cJ15_valueOf 0 = .ok (.aload_n 0, 1) := dk_42 (dk_at dksJ15_valueOf_0 0 rfl rfl)
theorem dJ15_valueOf_1 : decode cJ15_valueOf 1 = .ok (.ifnonnull 9, 3) := dk_199 0 9 (dk_at dksJ15_valueOf_0 1 rfl rfl)
theorem dJ15_valueOf_4 : decode cJ15_valueOf 4 = .ok (.ldc_w 1005, 3) := dk_19 3 237 (dk_at dksJ15_valueOf_0 4 rfl rfl)
theorem dJ15_valueOf_7 : decode cJ15_valueOf 7 = .ok (.goto 7, 3) := dk_167 0 7 (dk_at dksJ15_valueOf_0 7 rfl rfl)
theorem dJ15_valueOf_10 : decode cJ15_valueOf 10 = .ok (.aload_n 0, 1) := dk_42 (dk_at dksJ15_valueOf_0 10 rfl rfl)
theorem dJ15_valueOf_11 : decode cJ15_valueOf 11 = .ok (.invokevirtual 1007, 3) := dk_182 3 239 (dk_at dksJ15_valueOf_0 11 rfl rfl)
theorem dJ15_valueOf_14 : decode cJ15_valueOf 14 = .ok (.areturn, 1) := dk_176 (dk_at dksJ15_valueOf_0 14 rfl rfl)
abbrev iJ15_valueOf : xM := (yJ15_valueOf, cJ15_valueOf, 1, (some (.object "java/lang/String")), [])
theorem mJ15_valueOf : xOkM iJ15_valueOf := ⟨by decide +kernel, by decide, q974, q148⟩
abbrev cJ15_init_3 : ByteArray := prog_38_method_151_code
def yJ15_init_3 : MethodName := ⟨RJ15, "<init>", "([BB)V"⟩
def dkwJ15_init_3_0 : List UInt8 := [42, 183, 0, 1, 42, 43, 181, 0, 9, 42, 28, 181, 0, 15, 177]
abbrev dktJ15_init_3_0 : List UInt8 := dkwJ15_init_3_0 ++ []
theorem dksJ15_init_3_0 : cJ15_init_3.data.toList.drop 0 = dktJ15_init_3_0 := by decide +kernel
theorem dJ15_init_3_0 : decode cJ15_init_3 0 = .ok (.aload_n 0, 1) := dk_42 (dk_at dksJ15_init_3_0 0 rfl rfl)
theorem dJ15_init_3_1 : decode cJ15_init_3 1 = .ok (.invokespecial 1, 3) := dk_183 0 1 (dk_at dksJ15_init_3_0 1 rfl rfl)
theorem dJ15_init_3_4 : decode cJ15_init_3 4 = .ok (.aload_n 0, 1) := dk_42 (dk_at dksJ15_init_3_0 4 rfl rfl)
theorem dJ15_init_3_5 : decode cJ15_init_3 5 = .ok (.aload_n 1, 1) := dk_43 (dk_at dksJ15_init_3_0 5 rfl rfl)
theorem dJ15_init_3_6 : decode cJ15_init_3 6 = .ok (.putfield 9, 3) := dk_181 0 9 (dk_at dksJ15_init_3_0 6 rfl rfl)
theorem dJ15_init_3_9 : decode cJ15_init_3 9 = .ok (.aload_n 0, 1) := dk_42 (dk_at dksJ15_init_3_0 9 rfl rfl)
theorem dJ15_init_3_10 : decode cJ15_init_3 10 = .ok (.iload_n 2, 1) := dk_28 (dk_at dksJ15_init_3_0 10 rfl rfl)
theorem dJ15_init_3_11 : decode cJ15_init_3 11 = .ok (.putfield 15, 3) := dk_181 0 15 (dk_at dksJ15_init_3_0 11 rfl rfl)
theorem dJ15_init_3_14 : decode cJ15_init_3 14 = .ok (.return_, 1) := dk_177 (dk_at dksJ15_init_3_0 14 rfl rfl)
abbrev iJ15_init_3 : xM := (yJ15_init_3, cJ15_init_3, 3, none, [])
theorem mJ15_init_3 : xOkM iJ15_init_3 := ⟨by decide +kernel, by decide, q1085, q148⟩
abbrev cJ15_toString : ByteArray := prog_38_method_126_code
def yJ15_toString : MethodName := ⟨RJ15, "toString", "()Ljava/lang/String;"⟩
theorem dJ15_toString_0 : decode cJ15_toString 0 = .ok (.aload_n 0, 1) := by decide +kernel
theorem dJ15_toString_1 : decode cJ15_toString 1 = .ok (.areturn, 1) := by decide +kernel
abbrev iJ15_toString : xM := (yJ15_toString, cJ15_toString, 1, (some (.object "java/lang/String")), [])
theorem mJ15_toString : xOkM iJ15_toString := ⟨by decide +kernel, by decide, q1089, q148⟩
abbrev cJ15_hashCode : ByteArray := prog_38_method_78_code
def yJ15_hashCode : MethodName := ⟨RJ15, "hashCode", "()I"⟩
def dkwJ15_hashCode_2 : List UInt8 := [181, 0, 23, 167, 0, 8, 42, 27, 181, 0, 19, 27, 172]
abbrev dktJ15_hashCode_2 : List UInt8 := dkwJ15_hashCode_2 ++ []
def dkwJ15_hashCode_1 : List UInt8 := [180, 0, 9, 184, 2, 116, 167, 0, 10, 42, 180, 0, 9, 184, 2, 120, 60, 27, 154, 0, 11, 42, 4]
abbrev dktJ15_hashCode_1 : List UInt8 := dkwJ15_hashCode_1 ++ dktJ15_hashCode_2
def dkwJ15_hashCode_0 : List UInt8 := [42, 180, 0, 19, 60, 27, 154, 0, 52, 42, 180, 0, 23, 154, 0, 45, 42, 182, 1, 236, 153, 0, 13, 42]
abbrev dktJ15_hashCode_0 : List UInt8 := dkwJ15_hashCode_0 ++ dktJ15_hashCode_1
theorem dksJ15_hashCode_0 : cJ15_hashCode.data.toList.drop 0 = dktJ15_hashCode_0 := by decide +kernel
theorem dksJ15_hashCode_1 : cJ15_hashCode.data.toList.drop 24 = dktJ15_hashCode_1 := dk_seg dksJ15_hashCode_0 24 rfl rfl
theorem dksJ15_hashCode_2 : cJ15_hashCode.data.toList.drop 47 = dktJ15_hashCode_2 := dk_seg dksJ15_hashCode_1 23 rfl rfl
theorem dJ15_hashCode_0 : decode cJ15_hashCode 0 = .ok (.aload_n 0, 1) := dk_42 (dk_at dksJ15_hashCode_0 0 rfl rfl)
theorem dJ15_hashCode_1 : decode cJ15_hashCode 1 = .ok (.getfield 19, 3) := dk_180 0 19 (dk_at dksJ15_hashCode_0 1 rfl rfl)
theorem dJ15_hashCode_4 : decode cJ15_hashCode 4 = .ok (.istore_n 1, 1) := dk_60 (dk_at dksJ15_hashCode_0 4 rfl rfl)
theorem dJ15_hashCode_5 : decode cJ15_hashCode 5 = .ok (.iload_n 1, 1) := dk_27 (dk_at dksJ15_hashCode_0 5 rfl rfl)
theorem dJ15_hashCode_6 : decode cJ15_hashCode 6 = .ok (.ifCond .ne 52, 3) := dk_154 0 52 (dk_at dksJ15_hashCode_0 6 rfl rfl)
theorem dJ15_hashCode_9 : decode cJ15_hashCode 9 = .ok (.aload_n 0, 1) := dk_42 (dk_at dksJ15_hashCode_0 9 rfl rfl)
theorem dJ15_hashCode_10 : decode cJ15_hashCode 10 = .ok (.getfield 23, 3) := dk_180 0 23 (dk_at dksJ15_hashCode_0 10 rfl rfl)
theorem dJ15_hashCode_13 : decode cJ15_hashCode 13 = .ok (.ifCond .ne 45, 3) := dk_154 0 45 (dk_at dksJ15_hashCode_0 13 rfl rfl)
theorem dJ15_hashCode_16 : decode cJ15_hashCode 16 = .ok (.aload_n 0, 1) := dk_42 (dk_at dksJ15_hashCode_0 16 rfl rfl)
theorem dJ15_hashCode_17 : decode cJ15_hashCode 17 = .ok (.invokevirtual 492, 3) := dk_182 1 236 (dk_at dksJ15_hashCode_0 17 rfl rfl)
theorem dJ15_hashCode_20 : decode cJ15_hashCode 20 = .ok (.ifCond .eq 13, 3) := dk_153 0 13 (dk_at dksJ15_hashCode_0 20 rfl rfl)
theorem dJ15_hashCode_23 : decode cJ15_hashCode 23 = .ok (.aload_n 0, 1) := dk_42 (dk_at dksJ15_hashCode_0 23 rfl rfl)
theorem dJ15_hashCode_24 : decode cJ15_hashCode 24 = .ok (.getfield 9, 3) := dk_180 0 9 (dk_at dksJ15_hashCode_1 0 rfl rfl)
theorem dJ15_hashCode_27 : decode cJ15_hashCode 27 = .ok (.invokestatic 628, 3) := dk_184 2 116 (dk_at dksJ15_hashCode_1 3 rfl rfl)
theorem dJ15_hashCode_30 : decode cJ15_hashCode 30 = .ok (.goto 10, 3) := dk_167 0 10 (dk_at dksJ15_hashCode_1 6 rfl rfl)
theorem dJ15_hashCode_33 : decode cJ15_hashCode 33 = .ok (.aload_n 0, 1) := dk_42 (dk_at dksJ15_hashCode_1 9 rfl rfl)
theorem dJ15_hashCode_34 : decode cJ15_hashCode 34 = .ok (.getfield 9, 3) := dk_180 0 9 (dk_at dksJ15_hashCode_1 10 rfl rfl)
theorem dJ15_hashCode_37 : decode cJ15_hashCode 37 = .ok (.invokestatic 632, 3) := dk_184 2 120 (dk_at dksJ15_hashCode_1 13 rfl rfl)
theorem dJ15_hashCode_40 : decode cJ15_hashCode 40 = .ok (.istore_n 1, 1) := dk_60 (dk_at dksJ15_hashCode_1 16 rfl rfl)
theorem dJ15_hashCode_41 : decode cJ15_hashCode 41 = .ok (.iload_n 1, 1) := dk_27 (dk_at dksJ15_hashCode_1 17 rfl rfl)
theorem dJ15_hashCode_42 : decode cJ15_hashCode 42 = .ok (.ifCond .ne 11, 3) := dk_154 0 11 (dk_at dksJ15_hashCode_1 18 rfl rfl)
theorem dJ15_hashCode_45 : decode cJ15_hashCode 45 = .ok (.aload_n 0, 1) := dk_42 (dk_at dksJ15_hashCode_1 21 rfl rfl)
theorem dJ15_hashCode_46 : decode cJ15_hashCode 46 = .ok (.iconst 1, 1) := dk_4 (dk_at dksJ15_hashCode_1 22 rfl rfl)
theorem dJ15_hashCode_47 : decode cJ15_hashCode 47 = .ok (.putfield 23, 3) := dk_181 0 23 (dk_at dksJ15_hashCode_2 0 rfl rfl)
theorem dJ15_hashCode_50 : decode cJ15_hashCode 50 = .ok (.goto 8, 3) := dk_167 0 8 (dk_at dksJ15_hashCode_2 3 rfl rfl)
theorem dJ15_hashCode_53 : decode cJ15_hashCode 53 = .ok (.aload_n 0, 1) := dk_42 (dk_at dksJ15_hashCode_2 6 rfl rfl)
theorem dJ15_hashCode_54 : decode cJ15_hashCode 54 = .ok (.iload_n 1, 1) := dk_27 (dk_at dksJ15_hashCode_2 7 rfl rfl)
theorem dJ15_hashCode_55 : decode cJ15_hashCode 55 = .ok (.putfield 19, 3) := dk_181 0 19 (dk_at dksJ15_hashCode_2 8 rfl rfl)
theorem dJ15_hashCode_58 : decode cJ15_hashCode 58 = .ok (.iload_n 1, 1) := dk_27 (dk_at dksJ15_hashCode_2 11 rfl rfl)
theorem dJ15_hashCode_59 : decode cJ15_hashCode 59 = .ok (.ireturn, 1) := dk_172 (dk_at dksJ15_hashCode_2 12 rfl rfl)
abbrev iJ15_hashCode : xM := (yJ15_hashCode, cJ15_hashCode, 2, (some .int), [])
theorem mJ15_hashCode : xOkM iJ15_hashCode := ⟨by decide +kernel, by decide, q1397, q148⟩
abbrev cJ15_compareTo : ByteArray := prog_38_method_162_code
def yJ15_compareTo : MethodName := ⟨RJ15, "compareTo", "(Ljava/lang/Object;)I"⟩
def dkwJ15_compareTo_0 : List UInt8 := [42, 43, 192, 0, 10, 182, 4, 60, 172]
abbrev dktJ15_compareTo_0 : List UInt8 := dkwJ15_compareTo_0 ++ []
theorem dksJ15_compareTo_0 : cJ15_compareTo.data.toList.drop 0 = dktJ15_compareTo_0 := by decide +kernel
theorem dJ15_compareTo_0 : decode cJ15_compareTo 0 = .ok (.aload_n 0, 1) := dk_42 (dk_at dksJ15_compareTo_0 0 rfl rfl)
theorem dJ15_compareTo_1 : decode cJ15_compareTo 1 = .ok (.aload_n 1, 1) := dk_43 (dk_at dksJ15_compareTo_0 1 rfl rfl)
theorem dJ15_compareTo_2 : decode cJ15_compareTo 2 = .ok (.checkcast 10, 3) := dk_192 0 10 (dk_at dksJ15_compareTo_0 2 rfl rfl)
theorem dJ15_compareTo_5 : decode cJ15_compareTo 5 = .ok (.invokevirtual 1084, 3) := dk_182 4 60 (dk_at dksJ15_compareTo_0 5 rfl rfl)
theorem dJ15_compareTo_8 : decode cJ15_compareTo 8 = .ok (.ireturn, 1) := dk_172 (dk_at dksJ15_compareTo_0 8 rfl rfl)
abbrev iJ15_compareTo : xM := (yJ15_compareTo, cJ15_compareTo, 2, (some .int), [])
theorem mJ15_compareTo : xOkM iJ15_compareTo := ⟨by decide +kernel, by decide, q1598, q148⟩
abbrev cJ15_compareTo_2 : ByteArray := prog_38_method_71_code
def yJ15_compareTo_2 : MethodName := ⟨RJ15, "compareTo", "(Ljava/lang/String;)I"⟩
def dkwJ15_compareTo_2_2 : List UInt8 := [154, 0, 11, 44, 45, 184, 2, 79, 167, 0, 8, 44, 45, 184, 2, 82, 172]
abbrev dktJ15_compareTo_2_2 : List UInt8 := dkwJ15_compareTo_2_2 ++ []
def dkwJ15_compareTo_2_1 : List UInt8 := [160, 0, 22, 21, 4, 154, 0, 11, 44, 45, 184, 2, 74, 167, 0, 8, 44, 45, 184, 2, 78, 172, 21, 4]
abbrev dktJ15_compareTo_2_1 : List UInt8 := dkwJ15_compareTo_2_1 ++ dktJ15_compareTo_2_2
def dkwJ15_compareTo_2_0 : List UInt8 := [42, 180, 0, 9, 77, 43, 180, 0, 9, 78, 42, 182, 1, 79, 54, 4, 21, 4, 43, 182, 1, 79]
abbrev dktJ15_compareTo_2_0 : List UInt8 := dkwJ15_compareTo_2_0 ++ dktJ15_compareTo_2_1
theorem dksJ15_compareTo_2_0 : cJ15_compareTo_2.data.toList.drop 0 = dktJ15_compareTo_2_0 := by decide +kernel
theorem dksJ15_compareTo_2_1 : cJ15_compareTo_2.data.toList.drop 22 = dktJ15_compareTo_2_1 := dk_seg dksJ15_compareTo_2_0 22 rfl rfl
theorem dksJ15_compareTo_2_2 : cJ15_compareTo_2.data.toList.drop 46 = dktJ15_compareTo_2_2 := dk_seg dksJ15_compareTo_2_1 24 rfl rfl
theorem dJ15_compareTo_2_0 : decode cJ15_compareTo_2 0 = .ok (.aload_n 0, 1) := dk_42 (dk_at dksJ15_compareTo_2_0 0 rfl rfl)
theorem dJ15_compareTo_2_1 : decode cJ15_compareTo_2 1 = .ok (.getfield 9, 3) := dk_180 0 9 (dk_at dksJ15_compareTo_2_0 1 rfl rfl)
theorem dJ15_compareTo_2_4 : decode cJ15_compareTo_2 4 = .ok (.astore_n 2, 1) := dk_77 (dk_at dksJ15_compareTo_2_0 4 rfl rfl)
theorem dJ15_compareTo_2_5 : decode cJ15_compareTo_2 5 = .ok (.aload_n 1, 1) := dk_43 (dk_at dksJ15_compareTo_2_0 5 rfl rfl)
theorem dJ15_compareTo_2_6 : decode cJ15_compareTo_2 6 = .ok (.getfield 9, 3) := dk_180 0 9 (dk_at dksJ15_compareTo_2_0 6 rfl rfl)
theorem dJ15_compareTo_2_9 : decode cJ15_compareTo_2 9 = .ok (.astore_n 3, 1) := dk_78 (dk_at dksJ15_compareTo_2_0 9 rfl rfl)
theorem dJ15_compareTo_2_10 : decode cJ15_compareTo_2 10 = .ok (.aload_n 0, 1) := dk_42 (dk_at dksJ15_compareTo_2_0 10 rfl rfl)
theorem dJ15_compareTo_2_11 : decode cJ15_compareTo_2 11 = .ok (.invokevirtual 335, 3) := dk_182 1 79 (dk_at dksJ15_compareTo_2_0 11 rfl rfl)
theorem dJ15_compareTo_2_14 : decode cJ15_compareTo_2 14 = .ok (.istore 4, 2) := dk_54 4 (dk_at dksJ15_compareTo_2_0 14 rfl rfl)
theorem dJ15_compareTo_2_16 : decode cJ15_compareTo_2 16 = .ok (.iload 4, 2) := dk_21 4 (dk_at dksJ15_compareTo_2_0 16 rfl rfl)
theorem dJ15_compareTo_2_18 : decode cJ15_compareTo_2 18 = .ok (.aload_n 1, 1) := dk_43 (dk_at dksJ15_compareTo_2_0 18 rfl rfl)
theorem dJ15_compareTo_2_19 : decode cJ15_compareTo_2 19 = .ok (.invokevirtual 335, 3) := dk_182 1 79 (dk_at dksJ15_compareTo_2_0 19 rfl rfl)
theorem dJ15_compareTo_2_22 : decode cJ15_compareTo_2 22 = .ok (.if_icmp .ne 22, 3) := dk_160 0 22 (dk_at dksJ15_compareTo_2_1 0 rfl rfl)
theorem dJ15_compareTo_2_25 : decode cJ15_compareTo_2 25 = .ok (.iload 4, 2) := dk_21 4 (dk_at dksJ15_compareTo_2_1 3 rfl rfl)
theorem dJ15_compareTo_2_27 : decode cJ15_compareTo_2 27 = .ok (.ifCond .ne 11, 3) := dk_154 0 11 (dk_at dksJ15_compareTo_2_1 5 rfl rfl)
theorem dJ15_compareTo_2_30 : decode cJ15_compareTo_2 30 = .ok (.aload_n 2, 1) := dk_44 (dk_at dksJ15_compareTo_2_1 8 rfl rfl)
theorem dJ15_compareTo_2_31 : decode cJ15_compareTo_2 31 = .ok (.aload_n 3, 1) := dk_45 (dk_at dksJ15_compareTo_2_1 9 rfl rfl)
theorem dJ15_compareTo_2_32 : decode cJ15_compareTo_2 32 = .ok (.invokestatic 586, 3) := dk_184 2 74 (dk_at dksJ15_compareTo_2_1 10 rfl rfl)
theorem dJ15_compareTo_2_35 : decode cJ15_compareTo_2 35 = .ok (.goto 8, 3) := dk_167 0 8 (dk_at dksJ15_compareTo_2_1 13 rfl rfl)
theorem dJ15_compareTo_2_38 : decode cJ15_compareTo_2 38 = .ok (.aload_n 2, 1) := dk_44 (dk_at dksJ15_compareTo_2_1 16 rfl rfl)
theorem dJ15_compareTo_2_39 : decode cJ15_compareTo_2 39 = .ok (.aload_n 3, 1) := dk_45 (dk_at dksJ15_compareTo_2_1 17 rfl rfl)
theorem dJ15_compareTo_2_40 : decode cJ15_compareTo_2 40 = .ok (.invokestatic 590, 3) := dk_184 2 78 (dk_at dksJ15_compareTo_2_1 18 rfl rfl)
theorem dJ15_compareTo_2_43 : decode cJ15_compareTo_2 43 = .ok (.ireturn, 1) := dk_172 (dk_at dksJ15_compareTo_2_1 21 rfl rfl)
theorem dJ15_compareTo_2_44 : decode cJ15_compareTo_2 44 = .ok (.iload 4, 2) := dk_21 4 (dk_at dksJ15_compareTo_2_1 22 rfl rfl)
theorem dJ15_compareTo_2_46 : decode cJ15_compareTo_2 46 = .ok (.ifCond .ne 11, 3) := dk_154 0 11 (dk_at dksJ15_compareTo_2_2 0 rfl rfl)
theorem dJ15_compareTo_2_49 : decode cJ15_compareTo_2 49 = .ok (.aload_n 2, 1) := dk_44 (dk_at dksJ15_compareTo_2_2 3 rfl rfl)
theorem dJ15_compareTo_2_50 : decode cJ15_compareTo_2 50 = .ok (.aload_n 3, 1) := dk_45 (dk_at dksJ15_compareTo_2_2 4 rfl rfl)
theorem dJ15_compareTo_2_51 : decode cJ15_compareTo_2 51 = .ok (.invokestatic 591, 3) := dk_184 2 79 (dk_at dksJ15_compareTo_2_2 5 rfl rfl)
theorem dJ15_compareTo_2_54 : decode cJ15_compareTo_2 54 = .ok (.goto 8, 3) := dk_167 0 8 (dk_at dksJ15_compareTo_2_2 8 rfl rfl)
theorem dJ15_compareTo_2_57 : decode cJ15_compareTo_2 57 = .ok (.aload_n 2, 1) := dk_44 (dk_at dksJ15_compareTo_2_2 11 rfl rfl)
theorem dJ15_compareTo_2_58 : decode cJ15_compareTo_2 58 = .ok (.aload_n 3, 1) := dk_45 (dk_at dksJ15_compareTo_2_2 12 rfl rfl)
theorem dJ15_compareTo_2_59 : decode cJ15_compareTo_2 59 = .ok (.invokestatic 594, 3) := dk_184 2 82 (dk_at dksJ15_compareTo_2_2 13 rfl rfl)
theorem dJ15_compareTo_2_62 : decode cJ15_compareTo_2 62 = .ok (.ireturn, 1) := dk_172 (dk_at dksJ15_compareTo_2_2 16 rfl rfl)
abbrev iJ15_compareTo_2 : xM := (yJ15_compareTo_2, cJ15_compareTo_2, 5, (some .int), [])
theorem mJ15_compareTo_2 : xOkM iJ15_compareTo_2 := ⟨by decide +kernel, by decide, q1603, q148⟩
abbrev cJ15_checkOffset : ByteArray := prog_38_method_156_code
def yJ15_checkOffset : MethodName := ⟨RJ15, "checkOffset", "(II)V"⟩
def dkwJ15_checkOffset_0 : List UInt8 := [26, 27, 27, 178, 4, 29, 184, 4, 38, 87, 177]
abbrev dktJ15_checkOffset_0 : List UInt8 := dkwJ15_checkOffset_0 ++ []
theorem dksJ15_checkOffset_0 : cJ15_checkOffset.data.toList.drop 0 = dktJ15_checkOffset_0 := by decide +kernel
theorem dJ15_checkOffset_0 : decode cJ15_checkOffset 0 = .ok (.iload_n 0, 1) := dk_26 (dk_at dksJ15_checkOffset_0 0 rfl rfl)
theorem dJ15_checkOffset_1 : decode cJ15_checkOffset 1 = .ok (.iload_n 1, 1) := dk_27 (dk_at dksJ15_checkOffset_0 1 rfl rfl)
theorem dJ15_checkOffset_2 : decode cJ15_checkOffset 2 = .ok (.iload_n 1, 1) := dk_27 (dk_at dksJ15_checkOffset_0 2 rfl rfl)
theorem dJ15_checkOffset_3 : decode cJ15_checkOffset 3 = .ok (.getstatic 1053, 3) := dk_178 4 29 (dk_at dksJ15_checkOffset_0 3 rfl rfl)
theorem dJ15_checkOffset_6 : decode cJ15_checkOffset 6 = .ok (.invokestatic 1062, 3) := dk_184 4 38 (dk_at dksJ15_checkOffset_0 6 rfl rfl)
theorem dJ15_checkOffset_9 : decode cJ15_checkOffset 9 = .ok (.pop, 1) := dk_87 (dk_at dksJ15_checkOffset_0 9 rfl rfl)
theorem dJ15_checkOffset_10 : decode cJ15_checkOffset 10 = .ok (.return_, 1) := dk_177 (dk_at dksJ15_checkOffset_0 10 rfl rfl)
abbrev iJ15_checkOffset : xM := (yJ15_checkOffset, cJ15_checkOffset, 2, none, [])
theorem mJ15_checkOffset : xOkM iJ15_checkOffset := ⟨by decide +kernel, by decide, q1760, q148⟩
abbrev cJ15_equals : ByteArray := prog_38_method_66_code
def yJ15_equals : MethodName := ⟨RJ15, "equals", "(Ljava/lang/Object;)Z"⟩
def dkwJ15_equals_2 : List UInt8 := [184, 2, 29, 153, 0, 7, 4, 167, 0, 4, 3, 172]
abbrev dktJ15_equals_2 : List UInt8 := dkwJ15_equals_2 ++ []
def dkwJ15_equals_1 : List UInt8 := [153, 0, 14, 42, 180, 0, 15, 44, 180, 0, 15, 160, 0, 21, 42, 180, 0, 9, 44, 180, 0, 9]
abbrev dktJ15_equals_1 : List UInt8 := dkwJ15_equals_1 ++ dktJ15_equals_2
def dkwJ15_equals_0 : List UInt8 := [42, 43, 166, 0, 5, 4, 172, 43, 193, 0, 10, 153, 0, 43, 43, 192, 0, 10, 77, 178, 0, 38]
abbrev dktJ15_equals_0 : List UInt8 := dkwJ15_equals_0 ++ dktJ15_equals_1
theorem dksJ15_equals_0 : cJ15_equals.data.toList.drop 0 = dktJ15_equals_0 := by decide +kernel
theorem dksJ15_equals_1 : cJ15_equals.data.toList.drop 22 = dktJ15_equals_1 := dk_seg dksJ15_equals_0 22 rfl rfl
theorem dksJ15_equals_2 : cJ15_equals.data.toList.drop 44 = dktJ15_equals_2 := dk_seg dksJ15_equals_1 22 rfl rfl
theorem dJ15_equals_0 : decode cJ15_equals 0 = .ok (.aload_n 0, 1) := dk_42 (dk_at dksJ15_equals_0 0 rfl rfl)
theorem dJ15_equals_1 : decode cJ15_equals 1 = .ok (.aload_n 1, 1) := dk_43 (dk_at dksJ15_equals_0 1 rfl rfl)
theorem dJ15_equals_2 : decode cJ15_equals 2 = .ok (.if_acmp .ne 5, 3) := dk_166 0 5 (dk_at dksJ15_equals_0 2 rfl rfl)
theorem dJ15_equals_5 : decode cJ15_equals 5 = .ok (.iconst 1, 1) := dk_4 (dk_at dksJ15_equals_0 5 rfl rfl)
theorem dJ15_equals_6 : decode cJ15_equals 6 = .ok (.ireturn, 1) := dk_172 (dk_at dksJ15_equals_0 6 rfl rfl)
theorem dJ15_equals_7 : decode cJ15_equals 7 = .ok (.aload_n 1, 1) := dk_43 (dk_at dksJ15_equals_0 7 rfl rfl)
theorem dJ15_equals_8 : decode cJ15_equals 8 = .ok (.instanceof 10, 3) := dk_193 0 10 (dk_at dksJ15_equals_0 8 rfl rfl)
theorem dJ15_equals_11 : decode cJ15_equals 11 = .ok (.ifCond .eq 43, 3) := dk_153 0 43 (dk_at dksJ15_equals_0 11 rfl rfl)
theorem dJ15_equals_14 : decode cJ15_equals 14 = .ok (.aload_n 1, 1) := dk_43 (dk_at dksJ15_equals_0 14 rfl rfl)
theorem dJ15_equals_15 : decode cJ15_equals 15 = .ok (.checkcast 10, 3) := dk_192 0 10 (dk_at dksJ15_equals_0 15 rfl rfl)
theorem dJ15_equals_18 : decode cJ15_equals 18 = .ok (.astore_n 2, 1) := dk_77 (dk_at dksJ15_equals_0 18 rfl rfl)
theorem dJ15_equals_19 : decode cJ15_equals 19 = .ok (.getstatic 38, 3) := dk_178 0 38 (dk_at dksJ15_equals_0 19 rfl rfl)
theorem dJ15_equals_22 : decode cJ15_equals 22 = .ok (.ifCond .eq 14, 3) := dk_153 0 14 (dk_at dksJ15_equals_1 0 rfl rfl)
theorem dJ15_equals_25 : decode cJ15_equals 25 = .ok (.aload_n 0, 1) := dk_42 (dk_at dksJ15_equals_1 3 rfl rfl)
theorem dJ15_equals_26 : decode cJ15_equals 26 = .ok (.getfield 15, 3) := dk_180 0 15 (dk_at dksJ15_equals_1 4 rfl rfl)
theorem dJ15_equals_29 : decode cJ15_equals 29 = .ok (.aload_n 2, 1) := dk_44 (dk_at dksJ15_equals_1 7 rfl rfl)
theorem dJ15_equals_30 : decode cJ15_equals 30 = .ok (.getfield 15, 3) := dk_180 0 15 (dk_at dksJ15_equals_1 8 rfl rfl)
theorem dJ15_equals_33 : decode cJ15_equals 33 = .ok (.if_icmp .ne 21, 3) := dk_160 0 21 (dk_at dksJ15_equals_1 11 rfl rfl)
theorem dJ15_equals_36 : decode cJ15_equals 36 = .ok (.aload_n 0, 1) := dk_42 (dk_at dksJ15_equals_1 14 rfl rfl)
theorem dJ15_equals_37 : decode cJ15_equals 37 = .ok (.getfield 9, 3) := dk_180 0 9 (dk_at dksJ15_equals_1 15 rfl rfl)
theorem dJ15_equals_40 : decode cJ15_equals 40 = .ok (.aload_n 2, 1) := dk_44 (dk_at dksJ15_equals_1 18 rfl rfl)
theorem dJ15_equals_41 : decode cJ15_equals 41 = .ok (.getfield 9, 3) := dk_180 0 9 (dk_at dksJ15_equals_1 19 rfl rfl)
theorem dJ15_equals_44 : decode cJ15_equals 44 = .ok (.invokestatic 541, 3) := dk_184 2 29 (dk_at dksJ15_equals_2 0 rfl rfl)
theorem dJ15_equals_47 : decode cJ15_equals 47 = .ok (.ifCond .eq 7, 3) := dk_153 0 7 (dk_at dksJ15_equals_2 3 rfl rfl)
theorem dJ15_equals_50 : decode cJ15_equals 50 = .ok (.iconst 1, 1) := dk_4 (dk_at dksJ15_equals_2 6 rfl rfl)
theorem dJ15_equals_51 : decode cJ15_equals 51 = .ok (.goto 4, 3) := dk_167 0 4 (dk_at dksJ15_equals_2 7 rfl rfl)
theorem dJ15_equals_54 : decode cJ15_equals 54 = .ok (.iconst 0, 1) := dk_3 (dk_at dksJ15_equals_2 10 rfl rfl)
theorem dJ15_equals_55 : decode cJ15_equals 55 = .ok (.ireturn, 1) := dk_172 (dk_at dksJ15_equals_2 11 rfl rfl)
abbrev iJ15_equals : xM := (yJ15_equals, cJ15_equals, 3, (some .boolean), [])
theorem mJ15_equals : xOkM iJ15_equals := ⟨by decide +kernel, by decide, q1829, q148⟩
abbrev cJ16_newBytesFor : ByteArray := prog_43_method_2_code
def yJ16_newBytesFor : MethodName := ⟨RJ16, "newBytesFor", "(I)[B"⟩
def dkwJ16_newBytesFor_0 : List UInt8 := [26, 184, 0, 11, 188, 8, 176]
abbrev dktJ16_newBytesFor_0 : List UInt8 := dkwJ16_newBytesFor_0 ++ []
theorem dksJ16_newBytesFor_0 : cJ16_newBytesFor.data.toList.drop 0 = dktJ16_newBytesFor_0 := by decide +kernel
theorem dJ16_newBytesFor_0 : decode cJ16_newBytesFor 0 = .ok (.iload_n 0, 1) := dk_26 (dk_at dksJ16_newBytesFor_0 0 rfl rfl)
theorem dJ16_newBytesFor_1 : decode cJ16_newBytesFor 1 = .ok (.invokestatic 11, 3) := dk_184 0 11 (dk_at dksJ16_newBytesFor_0 1 rfl rfl)
theorem dJ16_newBytesFor_4 : decode cJ16_newBytesFor 4 = .ok (.newarray .byte, 2) := dk_188_8 (dk_at dksJ16_newBytesFor_0 4 rfl rfl)
theorem dJ16_newBytesFor_6 : decode cJ16_newBytesFor 6 = .ok (.areturn, 1) := dk_176 (dk_at dksJ16_newBytesFor_0 6 rfl rfl)
abbrev iJ16_newBytesFor : xM := (yJ16_newBytesFor, cJ16_newBytesFor, 1, (some (.array .byte)), [])
theorem mJ16_newBytesFor : xOkM iJ16_newBytesFor := ⟨by decide +kernel, by decide, q388, q149⟩
abbrev cJ16_newBytesLength : ByteArray := prog_43_method_3_code
def yJ16_newBytesLength : MethodName := ⟨RJ16, "newBytesLength", "(I)I"⟩
def dkwJ16_newBytesLength_2 : List UInt8 := [182, 0, 32, 182, 0, 37, 183, 0, 41, 191, 26, 4, 120, 172]
abbrev dktJ16_newBytesLength_2 : List UInt8 := dkwJ16_newBytesLength_2 ++ []
def dkwJ16_newBytesLength_1 : List UInt8 := [187, 0, 23, 89, 183, 0, 25, 18, 26, 182, 0, 28, 26, 182, 0, 32, 18, 35, 182, 0, 28, 18, 20]
abbrev dktJ16_newBytesLength_1 : List UInt8 := dkwJ16_newBytesLength_1 ++ dktJ16_newBytesLength_2
def dkwJ16_newBytesLength_0 : List UInt8 := [26, 156, 0, 11, 187, 0, 17, 89, 183, 0, 19, 191, 26, 18, 20, 161, 0, 40, 187, 0, 21, 89]
abbrev dktJ16_newBytesLength_0 : List UInt8 := dkwJ16_newBytesLength_0 ++ dktJ16_newBytesLength_1
theorem dksJ16_newBytesLength_0 : cJ16_newBytesLength.data.toList.drop 0 = dktJ16_newBytesLength_0 := by decide +kernel
theorem dksJ16_newBytesLength_1 : cJ16_newBytesLength.data.toList.drop 22 = dktJ16_newBytesLength_1 := dk_seg dksJ16_newBytesLength_0 22 rfl rfl
theorem dksJ16_newBytesLength_2 : cJ16_newBytesLength.data.toList.drop 45 = dktJ16_newBytesLength_2 := dk_seg dksJ16_newBytesLength_1 23 rfl rfl
theorem dJ16_newBytesLength_0 : decode cJ16_newBytesLength 0 = .ok (.iload_n 0, 1) := dk_26 (dk_at dksJ16_newBytesLength_0 0 rfl rfl)
theorem dJ16_newBytesLength_1 : decode cJ16_newBytesLength 1 = .ok (.ifCond .ge 11, 3) := dk_156 0 11 (dk_at dksJ16_newBytesLength_0 1 rfl rfl)
theorem dJ16_newBytesLength_4 : decode cJ16_newBytesLength 4 = .ok (.new 17, 3) := dk_187 0 17 (dk_at dksJ16_newBytesLength_0 4 rfl rfl)
theorem dJ16_newBytesLength_7 : decode cJ16_newBytesLength 7 = .ok (.dup, 1) := dk_89 (dk_at dksJ16_newBytesLength_0 7 rfl rfl)
theorem dJ16_newBytesLength_8 : decode cJ16_newBytesLength 8 = .ok (.invokespecial 19, 3) := dk_183 0 19 (dk_at dksJ16_newBytesLength_0 8 rfl rfl)
theorem dJ16_newBytesLength_11 : decode cJ16_newBytesLength 11 = .ok (.athrow, 1) := dk_191 (dk_at dksJ16_newBytesLength_0 11 rfl rfl)
theorem dJ16_newBytesLength_12 : decode cJ16_newBytesLength 12 = .ok (.iload_n 0, 1) := dk_26 (dk_at dksJ16_newBytesLength_0 12 rfl rfl)
theorem dJ16_newBytesLength_13 : decode cJ16_newBytesLength 13 = .ok (.ldc 20, 2) := dk_18 20 (dk_at dksJ16_newBytesLength_0 13 rfl rfl)
theorem dJ16_newBytesLength_15 : decode cJ16_newBytesLength 15 = .ok (.if_icmp .lt 40, 3) := dk_161 0 40 (dk_at dksJ16_newBytesLength_0 15 rfl rfl)
theorem dJ16_newBytesLength_18 : decode cJ16_newBytesLength 18 = .ok (.new 21, 3) := dk_187 0 21 (dk_at dksJ16_newBytesLength_0 18 rfl rfl)
theorem dJ16_newBytesLength_21 : decode cJ16_newBytesLength 21 = .ok (.dup, 1) := dk_89 (dk_at dksJ16_newBytesLength_0 21 rfl rfl)
theorem dJ16_newBytesLength_22 : decode cJ16_newBytesLength 22 = .ok (.new 23, 3) := dk_187 0 23 (dk_at dksJ16_newBytesLength_1 0 rfl rfl)
theorem dJ16_newBytesLength_25 : decode cJ16_newBytesLength 25 = .ok (.dup, 1) := dk_89 (dk_at dksJ16_newBytesLength_1 3 rfl rfl)
theorem dJ16_newBytesLength_26 : decode cJ16_newBytesLength 26 = .ok (.invokespecial 25, 3) := dk_183 0 25 (dk_at dksJ16_newBytesLength_1 4 rfl rfl)
theorem dJ16_newBytesLength_29 : decode cJ16_newBytesLength 29 = .ok (.ldc 26, 2) := dk_18 26 (dk_at dksJ16_newBytesLength_1 7 rfl rfl)
theorem dJ16_newBytesLength_31 : decode cJ16_newBytesLength 31 = .ok (.invokevirtual 28, 3) := dk_182 0 28 (dk_at dksJ16_newBytesLength_1 9 rfl rfl)
theorem dJ16_newBytesLength_34 : decode cJ16_newBytesLength 34 = .ok (.iload_n 0, 1) := dk_26 (dk_at dksJ16_newBytesLength_1 12 rfl rfl)
theorem dJ16_newBytesLength_35 : decode cJ16_newBytesLength 35 = .ok (.invokevirtual 32, 3) := dk_182 0 32 (dk_at dksJ16_newBytesLength_1 13 rfl rfl)
theorem dJ16_newBytesLength_38 : decode cJ16_newBytesLength 38 = .ok (.ldc 35, 2) := dk_18 35 (dk_at dksJ16_newBytesLength_1 16 rfl rfl)
theorem dJ16_newBytesLength_40 : decode cJ16_newBytesLength 40 = .ok (.invokevirtual 28, 3) := dk_182 0 28 (dk_at dksJ16_newBytesLength_1 18 rfl rfl)
theorem dJ16_newBytesLength_43 : decode cJ16_newBytesLength 43 = .ok (.ldc 20, 2) := dk_18 20 (dk_at dksJ16_newBytesLength_1 21 rfl rfl)
theorem dJ16_newBytesLength_45 : decode cJ16_newBytesLength 45 = .ok (.invokevirtual 32, 3) := dk_182 0 32 (dk_at dksJ16_newBytesLength_2 0 rfl rfl)
theorem dJ16_newBytesLength_48 : decode cJ16_newBytesLength 48 = .ok (.invokevirtual 37, 3) := dk_182 0 37 (dk_at dksJ16_newBytesLength_2 3 rfl rfl)
theorem dJ16_newBytesLength_51 : decode cJ16_newBytesLength 51 = .ok (.invokespecial 41, 3) := dk_183 0 41 (dk_at dksJ16_newBytesLength_2 6 rfl rfl)
theorem dJ16_newBytesLength_54 : decode cJ16_newBytesLength 54 = .ok (.athrow, 1) := dk_191 (dk_at dksJ16_newBytesLength_2 9 rfl rfl)
theorem dJ16_newBytesLength_55 : decode cJ16_newBytesLength 55 = .ok (.iload_n 0, 1) := dk_26 (dk_at dksJ16_newBytesLength_2 10 rfl rfl)
theorem dJ16_newBytesLength_56 : decode cJ16_newBytesLength 56 = .ok (.iconst 1, 1) := dk_4 (dk_at dksJ16_newBytesLength_2 11 rfl rfl)
theorem dJ16_newBytesLength_57 : decode cJ16_newBytesLength 57 = .ok (.ishl, 1) := dk_120 (dk_at dksJ16_newBytesLength_2 12 rfl rfl)
theorem dJ16_newBytesLength_58 : decode cJ16_newBytesLength 58 = .ok (.ireturn, 1) := dk_172 (dk_at dksJ16_newBytesLength_2 13 rfl rfl)
abbrev iJ16_newBytesLength : xM := (yJ16_newBytesLength, cJ16_newBytesLength, 1, (some .int), [])
theorem mJ16_newBytesLength : xOkM iJ16_newBytesLength := ⟨by decide +kernel, by decide, q391, q149⟩
abbrev cJ16_putCharsAt : ByteArray := prog_43_method_81_code
def yJ16_putCharsAt : MethodName := ⟨RJ16, "putCharsAt", "([BICCCC)I"⟩
def dkwJ16_putCharsAt_3 : List UInt8 := [21, 6, 172]
abbrev dktJ16_putCharsAt_3 : List UInt8 := dkwJ16_putCharsAt_3 ++ []
def dkwJ16_putCharsAt_2 : List UInt8 := [184, 0, 111, 178, 0, 44, 154, 0, 17, 27, 21, 6, 159, 0, 11, 187, 0, 52, 89, 183, 0, 66, 191]
abbrev dktJ16_putCharsAt_2 : List UInt8 := dkwJ16_putCharsAt_2 ++ dktJ16_putCharsAt_3
def dkwJ16_putCharsAt_1 : List UInt8 := [132, 1, 1, 29, 184, 0, 111, 42, 27, 132, 1, 1, 21, 4, 184, 0, 111, 42, 27, 132, 1, 1, 21, 5]
abbrev dktJ16_putCharsAt_1 : List UInt8 := dkwJ16_putCharsAt_1 ++ dktJ16_putCharsAt_2
def dkwJ16_putCharsAt_0 : List UInt8 := [27, 7, 96, 54, 6, 27, 21, 6, 42, 184, 0, 96, 42, 27, 132, 1, 1, 28, 184, 0, 111, 42, 27]
abbrev dktJ16_putCharsAt_0 : List UInt8 := dkwJ16_putCharsAt_0 ++ dktJ16_putCharsAt_1
theorem dksJ16_putCharsAt_0 : cJ16_putCharsAt.data.toList.drop 0 = dktJ16_putCharsAt_0 := by decide +kernel
theorem dksJ16_putCharsAt_1 : cJ16_putCharsAt.data.toList.drop 23 = dktJ16_putCharsAt_1 := dk_seg dksJ16_putCharsAt_0 23 rfl rfl
theorem dksJ16_putCharsAt_2 : cJ16_putCharsAt.data.toList.drop 47 = dktJ16_putCharsAt_2 := dk_seg dksJ16_putCharsAt_1 24 rfl rfl
theorem dksJ16_putCharsAt_3 : cJ16_putCharsAt.data.toList.drop 70 = dktJ16_putCharsAt_3 := dk_seg dksJ16_putCharsAt_2 23 rfl rfl
theorem dJ16_putCharsAt_0 : decode cJ16_putCharsAt 0 = .ok (.iload_n 1, 1) := dk_27 (dk_at dksJ16_putCharsAt_0 0 rfl rfl)
theorem dJ16_putCharsAt_1 : decode cJ16_putCharsAt 1 = .ok (.iconst 4, 1) := dk_7 (dk_at dksJ16_putCharsAt_0 1 rfl rfl)
theorem dJ16_putCharsAt_2 : decode cJ16_putCharsAt 2 = .ok (.iadd, 1) := dk_96 (dk_at dksJ16_putCharsAt_0 2 rfl rfl)
theorem dJ16_putCharsAt_3 : decode cJ16_putCharsAt 3 = .ok (.istore 6, 2) := dk_54 6 (dk_at dksJ16_putCharsAt_0 3 rfl rfl)
theorem dJ16_putCharsAt_5 : decode cJ16_putCharsAt 5 = .ok (.iload_n 1, 1) := dk_27 (dk_at dksJ16_putCharsAt_0 5 rfl rfl)
theorem dJ16_putCharsAt_6 : decode cJ16_putCharsAt 6 = .ok (.iload 6, 2) := dk_21 6 (dk_at dksJ16_putCharsAt_0 6 rfl rfl)
theorem dJ16_putCharsAt_8 : decode cJ16_putCharsAt 8 = .ok (.aload_n 0, 1) := dk_42 (dk_at dksJ16_putCharsAt_0 8 rfl rfl)
theorem dJ16_putCharsAt_9 : decode cJ16_putCharsAt 9 = .ok (.invokestatic 96, 3) := dk_184 0 96 (dk_at dksJ16_putCharsAt_0 9 rfl rfl)
theorem dJ16_putCharsAt_12 : decode cJ16_putCharsAt 12 = .ok (.aload_n 0, 1) := dk_42 (dk_at dksJ16_putCharsAt_0 12 rfl rfl)
theorem dJ16_putCharsAt_13 : decode cJ16_putCharsAt 13 = .ok (.iload_n 1, 1) := dk_27 (dk_at dksJ16_putCharsAt_0 13 rfl rfl)
theorem dJ16_putCharsAt_14 : decode cJ16_putCharsAt 14 = .ok (.iinc 1 1, 3) := dk_132 1 1 (dk_at dksJ16_putCharsAt_0 14 rfl rfl)
theorem dJ16_putCharsAt_17 : decode cJ16_putCharsAt 17 = .ok (.iload_n 2, 1) := dk_28 (dk_at dksJ16_putCharsAt_0 17 rfl rfl)
theorem dJ16_putCharsAt_18 : decode cJ16_putCharsAt 18 = .ok (.invokestatic 111, 3) := dk_184 0 111 (dk_at dksJ16_putCharsAt_0 18 rfl rfl)
theorem dJ16_putCharsAt_21 : decode cJ16_putCharsAt 21 = .ok (.aload_n 0, 1) := dk_42 (dk_at dksJ16_putCharsAt_0 21 rfl rfl)
theorem dJ16_putCharsAt_22 : decode cJ16_putCharsAt 22 = .ok (.iload_n 1, 1) := dk_27 (dk_at dksJ16_putCharsAt_0 22 rfl rfl)
theorem dJ16_putCharsAt_23 : decode cJ16_putCharsAt 23 = .ok (.iinc 1 1, 3) := dk_132 1 1 (dk_at dksJ16_putCharsAt_1 0 rfl rfl)
theorem dJ16_putCharsAt_26 : decode cJ16_putCharsAt 26 = .ok (.iload_n 3, 1) := dk_29 (dk_at dksJ16_putCharsAt_1 3 rfl rfl)
theorem dJ16_putCharsAt_27 : decode cJ16_putCharsAt 27 = .ok (.invokestatic 111, 3) := dk_184 0 111 (dk_at dksJ16_putCharsAt_1 4 rfl rfl)
theorem dJ16_putCharsAt_30 : decode cJ16_putCharsAt 30 = .ok (.aload_n 0, 1) := dk_42 (dk_at dksJ16_putCharsAt_1 7 rfl rfl)
theorem dJ16_putCharsAt_31 : decode cJ16_putCharsAt 31 = .ok (.iload_n 1, 1) := dk_27 (dk_at dksJ16_putCharsAt_1 8 rfl rfl)
theorem dJ16_putCharsAt_32 : decode cJ16_putCharsAt 32 = .ok (.iinc 1 1, 3) := dk_132 1 1 (dk_at dksJ16_putCharsAt_1 9 rfl rfl)
theorem dJ16_putCharsAt_35 : decode cJ16_putCharsAt 35 = .ok (.iload 4, 2) := dk_21 4 (dk_at dksJ16_putCharsAt_1 12 rfl rfl)
theorem dJ16_putCharsAt_37 : decode cJ16_putCharsAt 37 = .ok (.invokestatic 111, 3) := dk_184 0 111 (dk_at dksJ16_putCharsAt_1 14 rfl rfl)
theorem dJ16_putCharsAt_40 : decode cJ16_putCharsAt 40 = .ok (.aload_n 0, 1) := dk_42 (dk_at dksJ16_putCharsAt_1 17 rfl rfl)
theorem dJ16_putCharsAt_41 : decode cJ16_putCharsAt 41 = .ok (.iload_n 1, 1) := dk_27 (dk_at dksJ16_putCharsAt_1 18 rfl rfl)
theorem dJ16_putCharsAt_42 : decode cJ16_putCharsAt 42 = .ok (.iinc 1 1, 3) := dk_132 1 1 (dk_at dksJ16_putCharsAt_1 19 rfl rfl)
theorem dJ16_putCharsAt_45 : decode cJ16_putCharsAt 45 = .ok (.iload 5, 2) := dk_21 5 (dk_at dksJ16_putCharsAt_1 22 rfl rfl)
theorem dJ16_putCharsAt_47 : decode cJ16_putCharsAt 47 = .ok (.invokestatic 111, 3) := dk_184 0 111 (dk_at dksJ16_putCharsAt_2 0 rfl rfl)
theorem dJ16_putCharsAt_50 : decode cJ16_putCharsAt 50 = .ok (.getstatic 44, 3) := dk_178 0 44 (dk_at dksJ16_putCharsAt_2 3 rfl rfl)
theorem dJ16_putCharsAt_53 : decode cJ16_putCharsAt 53 = .ok (.ifCond .ne 17, 3) := dk_154 0 17 (dk_at dksJ16_putCharsAt_2 6 rfl rfl)
theorem dJ16_putCharsAt_56 : decode cJ16_putCharsAt 56 = .ok (.iload_n 1, 1) := dk_27 (dk_at dksJ16_putCharsAt_2 9 rfl rfl)
theorem dJ16_putCharsAt_57 : decode cJ16_putCharsAt 57 = .ok (.iload 6, 2) := dk_21 6 (dk_at dksJ16_putCharsAt_2 10 rfl rfl)
theorem dJ16_putCharsAt_59 : decode cJ16_putCharsAt 59 = .ok (.if_icmp .eq 11, 3) := dk_159 0 11 (dk_at dksJ16_putCharsAt_2 12 rfl rfl)
theorem dJ16_putCharsAt_62 : decode cJ16_putCharsAt 62 = .ok (.new 52, 3) := dk_187 0 52 (dk_at dksJ16_putCharsAt_2 15 rfl rfl)
theorem dJ16_putCharsAt_65 : decode cJ16_putCharsAt 65 = .ok (.dup, 1) := dk_89 (dk_at dksJ16_putCharsAt_2 18 rfl rfl)
theorem dJ16_putCharsAt_66 : decode cJ16_putCharsAt 66 = .ok (.invokespecial 66, 3) := dk_183 0 66 (dk_at dksJ16_putCharsAt_2 19 rfl rfl)
theorem dJ16_putCharsAt_69 : decode cJ16_putCharsAt 69 = .ok (.athrow, 1) := dk_191 (dk_at dksJ16_putCharsAt_2 22 rfl rfl)
theorem dJ16_putCharsAt_70 : decode cJ16_putCharsAt 70 = .ok (.iload 6, 2) := dk_21 6 (dk_at dksJ16_putCharsAt_3 0 rfl rfl)
theorem dJ16_putCharsAt_72 : decode cJ16_putCharsAt 72 = .ok (.ireturn, 1) := dk_172 (dk_at dksJ16_putCharsAt_3 2 rfl rfl)
abbrev iJ16_putCharsAt : xM := (yJ16_putCharsAt, cJ16_putCharsAt, 7, (some .int), [])
theorem mJ16_putCharsAt : xOkM iJ16_putCharsAt := ⟨by decide +kernel, by decide, q462, q149⟩
abbrev cJ16_checkBoundsBeginEnd : ByteArray := prog_43_method_93_code
def yJ16_checkBoundsBeginEnd : MethodName := ⟨RJ16, "checkBoundsBeginEnd", "(II[B)V"⟩
def dkwJ16_checkBoundsBeginEnd_0 : List UInt8 := [26, 27, 44, 184, 0, 48, 184, 0, 241, 177]
abbrev dktJ16_checkBoundsBeginEnd_0 : List UInt8 := dkwJ16_checkBoundsBeginEnd_0 ++ []
theorem dksJ16_checkBoundsBeginEnd_0 : cJ16_checkBoundsBeginEnd.data.toList.drop 0 = dktJ16_checkBoundsBeginEnd_0 := by decide +kernel
theorem dJ16_checkBoundsBeginEnd_0 : decode cJ16_checkBoundsBeginEnd 0 = .ok (.iload_n 0, 1) := dk_26 (dk_at dksJ16_checkBoundsBeginEnd_0 0 rfl rfl)
theorem dJ16_checkBoundsBeginEnd_1 : decode cJ16_checkBoundsBeginEnd 1 = .ok (.iload_n 1, 1) := dk_27 (dk_at dksJ16_checkBoundsBeginEnd_0 1 rfl rfl)
theorem dJ16_checkBoundsBeginEnd_2 : decode cJ16_checkBoundsBeginEnd 2 = .ok (.aload_n 2, 1) := dk_44 (dk_at dksJ16_checkBoundsBeginEnd_0 2 rfl rfl)
theorem dJ16_checkBoundsBeginEnd_3 : decode cJ16_checkBoundsBeginEnd 3 = .ok (.invokestatic 48, 3) := dk_184 0 48 (dk_at dksJ16_checkBoundsBeginEnd_0 3 rfl rfl)
theorem dJ16_checkBoundsBeginEnd_6 : decode cJ16_checkBoundsBeginEnd 6 = .ok (.invokestatic 241, 3) := dk_184 0 241 (dk_at dksJ16_checkBoundsBeginEnd_0 6 rfl rfl)
theorem dJ16_checkBoundsBeginEnd_9 : decode cJ16_checkBoundsBeginEnd 9 = .ok (.return_, 1) := dk_177 (dk_at dksJ16_checkBoundsBeginEnd_0 9 rfl rfl)
abbrev iJ16_checkBoundsBeginEnd : xM := (yJ16_checkBoundsBeginEnd, cJ16_checkBoundsBeginEnd, 3, none, [])
theorem mJ16_checkBoundsBeginEnd : xOkM iJ16_checkBoundsBeginEnd := ⟨by decide +kernel, by decide, q465, q149⟩
abbrev cJ16_length : ByteArray := prog_43_method_6_code
def yJ16_length : MethodName := ⟨RJ16, "length", "([B)I"⟩
def dkwJ16_length_0 : List UInt8 := [42, 190, 4, 122, 172]
abbrev dktJ16_length_0 : List UInt8 := dkwJ16_length_0 ++ []
theorem dksJ16_length_0 : cJ16_length.data.toList.drop 0 = dktJ16_length_0 := by decide +kernel
theorem dJ16_length_0 : decode cJ16_length 0 = .ok (.aload_n 0, 1) := dk_42 (dk_at dksJ16_length_0 0 rfl rfl)
theorem dJ16_length_1 : decode cJ16_length 1 = .ok (.arraylength, 1) := dk_190 (dk_at dksJ16_length_0 1 rfl rfl)
theorem dJ16_length_2 : decode cJ16_length 2 = .ok (.iconst 1, 1) := dk_4 (dk_at dksJ16_length_0 2 rfl rfl)
theorem dJ16_length_3 : decode cJ16_length 3 = .ok (.ishr, 1) := dk_122 (dk_at dksJ16_length_0 3 rfl rfl)
theorem dJ16_length_4 : decode cJ16_length 4 = .ok (.ireturn, 1) := dk_172 (dk_at dksJ16_length_0 4 rfl rfl)
abbrev iJ16_length : xM := (yJ16_length, cJ16_length, 1, (some .int), [])
theorem mJ16_length : xOkM iJ16_length := ⟨by decide +kernel, by decide, q468, q149⟩
abbrev cJ16_putChar : ByteArray := prog_43_method_4_code
def yJ16_putChar : MethodName := ⟨RJ16, "putChar", "([BII)V"⟩
def dkwJ16_putChar_2 : List UInt8 := [178, 0, 63, 122, 145, 84, 177]
abbrev dktJ16_putChar_2 : List UInt8 := dkwJ16_putChar_2 ++ []
def dkwJ16_putChar_1 : List UInt8 := [183, 0, 56, 191, 27, 4, 120, 60, 42, 27, 132, 1, 1, 28, 178, 0, 59, 122, 145, 84, 42, 27, 28]
abbrev dktJ16_putChar_1 : List UInt8 := dkwJ16_putChar_1 ++ dktJ16_putChar_2
def dkwJ16_putChar_0 : List UInt8 := [178, 0, 44, 154, 0, 25, 27, 155, 0, 11, 27, 42, 184, 0, 48, 161, 0, 13, 187, 0, 52, 89, 18, 54]
abbrev dktJ16_putChar_0 : List UInt8 := dkwJ16_putChar_0 ++ dktJ16_putChar_1
theorem dksJ16_putChar_0 : cJ16_putChar.data.toList.drop 0 = dktJ16_putChar_0 := by decide +kernel
theorem dksJ16_putChar_1 : cJ16_putChar.data.toList.drop 24 = dktJ16_putChar_1 := dk_seg dksJ16_putChar_0 24 rfl rfl
theorem dksJ16_putChar_2 : cJ16_putChar.data.toList.drop 47 = dktJ16_putChar_2 := dk_seg dksJ16_putChar_1 23 rfl rfl
theorem dJ16_putChar_0 : decode cJ16_putChar 0 = .ok (.getstatic 44, 3) := dk_178 0 44 (dk_at dksJ16_putChar_0 0 rfl rfl)
theorem dJ16_putChar_3 : decode cJ16_putChar 3 = .ok (.ifCond .ne 25, 3) := dk_154 0 25 (dk_at dksJ16_putChar_0 3 rfl rfl)
theorem dJ16_putChar_6 : decode cJ16_putChar 6 = .ok (.iload_n 1, 1) := dk_27 (dk_at dksJ16_putChar_0 6 rfl rfl)
theorem dJ16_putChar_7 : decode cJ16_putChar 7 = .ok (.ifCond .lt 11, 3) := dk_155 0 11 (dk_at dksJ16_putChar_0 7 rfl rfl)
theorem dJ16_putChar_10 : decode cJ16_putChar 10 = .ok (.iload_n 1, 1) := dk_27 (dk_at dksJ16_putChar_0 10 rfl rfl)
theorem dJ16_putChar_11 : decode cJ16_putChar 11 = .ok (.aload_n 0, 1) := dk_42 (dk_at dksJ16_putChar_0 11 rfl rfl)
theorem dJ16_putChar_12 : decode cJ16_putChar 12 = .ok (.invokestatic 48, 3) := dk_184 0 48 (dk_at dksJ16_putChar_0 12 rfl rfl)
theorem dJ16_putChar_15 : decode cJ16_putChar 15 = .ok (.if_icmp .lt 13, 3) := dk_161 0 13 (dk_at dksJ16_putChar_0 15 rfl rfl)
theorem dJ16_putChar_18 : decode cJ16_putChar 18 = .ok (.new 52, 3) := dk_187 0 52 (dk_at dksJ16_putChar_0 18 rfl rfl)
theorem dJ16_putChar_21 : decode cJ16_putChar 21 = .ok (.dup, 1) := dk_89 (dk_at dksJ16_putChar_0 21 rfl rfl)
theorem dJ16_putChar_22 : decode cJ16_putChar 22 = .ok (.ldc 54, 2) := dk_18 54 (dk_at dksJ16_putChar_0 22 rfl rfl)
theorem dJ16_putChar_24 : decode cJ16_putChar 24 = .ok (.invokespecial 56, 3) := dk_183 0 56 (dk_at dksJ16_putChar_1 0 rfl rfl)
theorem dJ16_putChar_27 : decode cJ16_putChar 27 = .ok (.athrow, 1) := dk_191 (dk_at dksJ16_putChar_1 3 rfl rfl)
theorem dJ16_putChar_28 : decode cJ16_putChar 28 = .ok (.iload_n 1, 1) := dk_27 (dk_at dksJ16_putChar_1 4 rfl rfl)
theorem dJ16_putChar_29 : decode cJ16_putChar 29 = .ok (.iconst 1, 1) := dk_4 (dk_at dksJ16_putChar_1 5 rfl rfl)
theorem dJ16_putChar_30 : decode cJ16_putChar 30 = .ok (.ishl, 1) := dk_120 (dk_at dksJ16_putChar_1 6 rfl rfl)
theorem dJ16_putChar_31 : decode cJ16_putChar 31 = .ok (.istore_n 1, 1) := dk_60 (dk_at dksJ16_putChar_1 7 rfl rfl)
theorem dJ16_putChar_32 : decode cJ16_putChar 32 = .ok (.aload_n 0, 1) := dk_42 (dk_at dksJ16_putChar_1 8 rfl rfl)
theorem dJ16_putChar_33 : decode cJ16_putChar 33 = .ok (.iload_n 1, 1) := dk_27 (dk_at dksJ16_putChar_1 9 rfl rfl)
theorem dJ16_putChar_34 : decode cJ16_putChar 34 = .ok (.iinc 1 1, 3) := dk_132 1 1 (dk_at dksJ16_putChar_1 10 rfl rfl)
theorem dJ16_putChar_37 : decode cJ16_putChar 37 = .ok (.iload_n 2, 1) := dk_28 (dk_at dksJ16_putChar_1 13 rfl rfl)
theorem dJ16_putChar_38 : decode cJ16_putChar 38 = .ok (.getstatic 59, 3) := dk_178 0 59 (dk_at dksJ16_putChar_1 14 rfl rfl)
theorem dJ16_putChar_41 : decode cJ16_putChar 41 = .ok (.ishr, 1) := dk_122 (dk_at dksJ16_putChar_1 17 rfl rfl)
theorem dJ16_putChar_42 : decode cJ16_putChar 42 = .ok (.i2b, 1) := dk_145 (dk_at dksJ16_putChar_1 18 rfl rfl)
theorem dJ16_putChar_43 : decode cJ16_putChar 43 = .ok (.bastore, 1) := dk_84 (dk_at dksJ16_putChar_1 19 rfl rfl)
theorem dJ16_putChar_44 : decode cJ16_putChar 44 = .ok (.aload_n 0, 1) := dk_42 (dk_at dksJ16_putChar_1 20 rfl rfl)
theorem dJ16_putChar_45 : decode cJ16_putChar 45 = .ok (.iload_n 1, 1) := dk_27 (dk_at dksJ16_putChar_1 21 rfl rfl)
theorem dJ16_putChar_46 : decode cJ16_putChar 46 = .ok (.iload_n 2, 1) := dk_28 (dk_at dksJ16_putChar_1 22 rfl rfl)
theorem dJ16_putChar_47 : decode cJ16_putChar 47 = .ok (.getstatic 63, 3) := dk_178 0 63 (dk_at dksJ16_putChar_2 0 rfl rfl)
theorem dJ16_putChar_50 : decode cJ16_putChar 50 = .ok (.ishr, 1) := dk_122 (dk_at dksJ16_putChar_2 3 rfl rfl)
theorem dJ16_putChar_51 : decode cJ16_putChar 51 = .ok (.i2b, 1) := dk_145 (dk_at dksJ16_putChar_2 4 rfl rfl)
theorem dJ16_putChar_52 : decode cJ16_putChar 52 = .ok (.bastore, 1) := dk_84 (dk_at dksJ16_putChar_2 5 rfl rfl)
theorem dJ16_putChar_53 : decode cJ16_putChar 53 = .ok (.return_, 1) := dk_177 (dk_at dksJ16_putChar_2 6 rfl rfl)
abbrev iJ16_putChar : xM := (yJ16_putChar, cJ16_putChar, 3, none, [])
theorem mJ16_putChar : xOkM iJ16_putChar := ⟨by decide +kernel, by decide, q479, q149⟩
abbrev cJ16_inflate : ByteArray := prog_43_method_86_code
def yJ16_inflate : MethodName := ⟨RJ16, "inflate", "([BI[BII)V"⟩
def dkwJ16_inflate_1 : List UInt8 := [132, 1, 1, 51, 17, 0, 255, 126, 184, 0, 111, 132, 5, 1, 167, 255, 228, 177]
abbrev dktJ16_inflate_1 : List UInt8 := dkwJ16_inflate_1 ++ []
def dkwJ16_inflate_0 : List UInt8 := [29, 21, 4, 44, 184, 0, 173, 3, 54, 5, 21, 5, 21, 4, 162, 0, 27, 44, 29, 132, 3, 1, 42, 27]
abbrev dktJ16_inflate_0 : List UInt8 := dkwJ16_inflate_0 ++ dktJ16_inflate_1
theorem dksJ16_inflate_0 : cJ16_inflate.data.toList.drop 0 = dktJ16_inflate_0 := by decide +kernel
theorem dksJ16_inflate_1 : cJ16_inflate.data.toList.drop 24 = dktJ16_inflate_1 := dk_seg dksJ16_inflate_0 24 rfl rfl
theorem dJ16_inflate_0 : decode cJ16_inflate 0 = .ok (.iload_n 3, 1) := dk_29 (dk_at dksJ16_inflate_0 0 rfl rfl)
theorem dJ16_inflate_1 : decode cJ16_inflate 1 = .ok (.iload 4, 2) := dk_21 4 (dk_at dksJ16_inflate_0 1 rfl rfl)
theorem dJ16_inflate_3 : decode cJ16_inflate 3 = .ok (.aload_n 2, 1) := dk_44 (dk_at dksJ16_inflate_0 3 rfl rfl)
theorem dJ16_inflate_4 : decode cJ16_inflate 4 = .ok (.invokestatic 173, 3) := dk_184 0 173 (dk_at dksJ16_inflate_0 4 rfl rfl)
theorem dJ16_inflate_7 : decode cJ16_inflate 7 = .ok (.iconst 0, 1) := dk_3 (dk_at dksJ16_inflate_0 7 rfl rfl)
theorem dJ16_inflate_8 : decode cJ16_inflate 8 = .ok (.istore 5, 2) := dk_54 5 (dk_at dksJ16_inflate_0 8 rfl rfl)
theorem dJ16_inflate_10 : decode cJ16_inflate 10 = .ok (.iload 5, 2) := dk_21 5 (dk_at dksJ16_inflate_0 10 rfl rfl)
theorem dJ16_inflate_12 : decode cJ16_inflate 12 = .ok (.iload 4, 2) := dk_21 4 (dk_at dksJ16_inflate_0 12 rfl rfl)
theorem dJ16_inflate_14 : decode cJ16_inflate 14 = .ok (.if_icmp .ge 27, 3) := dk_162 0 27 (dk_at dksJ16_inflate_0 14 rfl rfl)
theorem dJ16_inflate_17 : decode cJ16_inflate 17 = .ok (.aload_n 2, 1) := dk_44 (dk_at dksJ16_inflate_0 17 rfl rfl)
theorem dJ16_inflate_18 : decode cJ16_inflate 18 = .ok (.iload_n 3, 1) := dk_29 (dk_at dksJ16_inflate_0 18 rfl rfl)
theorem dJ16_inflate_19 : decode cJ16_inflate 19 = .ok (.iinc 3 1, 3) := dk_132 3 1 (dk_at dksJ16_inflate_0 19 rfl rfl)
theorem dJ16_inflate_22 : decode cJ16_inflate 22 = .ok (.aload_n 0, 1) := dk_42 (dk_at dksJ16_inflate_0 22 rfl rfl)
theorem dJ16_inflate_23 : decode cJ16_inflate 23 = .ok (.iload_n 1, 1) := dk_27 (dk_at dksJ16_inflate_0 23 rfl rfl)
theorem dJ16_inflate_24 : decode cJ16_inflate 24 = .ok (.iinc 1 1, 3) := dk_132 1 1 (dk_at dksJ16_inflate_1 0 rfl rfl)
theorem dJ16_inflate_27 : decode cJ16_inflate 27 = .ok (.baload, 1) := dk_51 (dk_at dksJ16_inflate_1 3 rfl rfl)
theorem dJ16_inflate_28 : decode cJ16_inflate 28 = .ok (.sipush 255, 3) := dk_17 0 255 (dk_at dksJ16_inflate_1 4 rfl rfl)
theorem dJ16_inflate_31 : decode cJ16_inflate 31 = .ok (.iand, 1) := dk_126 (dk_at dksJ16_inflate_1 7 rfl rfl)
theorem dJ16_inflate_32 : decode cJ16_inflate 32 = .ok (.invokestatic 111, 3) := dk_184 0 111 (dk_at dksJ16_inflate_1 8 rfl rfl)
theorem dJ16_inflate_35 : decode cJ16_inflate 35 = .ok (.iinc 5 1, 3) := dk_132 5 1 (dk_at dksJ16_inflate_1 11 rfl rfl)
theorem dJ16_inflate_38 : decode cJ16_inflate 38 = .ok (.goto (-28), 3) := dk_167 255 228 (dk_at dksJ16_inflate_1 14 rfl rfl)
theorem dJ16_inflate_41 : decode cJ16_inflate 41 = .ok (.return_, 1) := dk_177 (dk_at dksJ16_inflate_1 17 rfl rfl)
abbrev iJ16_inflate : xM := (yJ16_inflate, cJ16_inflate, 6, none, [])
theorem mJ16_inflate : xOkM iJ16_inflate := ⟨by decide +kernel, by decide, q513, q149⟩
abbrev cJ16_checkBoundsOffCount : ByteArray := prog_43_method_94_code
def yJ16_checkBoundsOffCount : MethodName := ⟨RJ16, "checkBoundsOffCount", "(II[B)V"⟩
def dkwJ16_checkBoundsOffCount_0 : List UInt8 := [26, 27, 44, 184, 0, 48, 184, 1, 163, 87, 177]
abbrev dktJ16_checkBoundsOffCount_0 : List UInt8 := dkwJ16_checkBoundsOffCount_0 ++ []
theorem dksJ16_checkBoundsOffCount_0 : cJ16_checkBoundsOffCount.data.toList.drop 0 = dktJ16_checkBoundsOffCount_0 := by decide +kernel
theorem dJ16_checkBoundsOffCount_0 : decode cJ16_checkBoundsOffCount 0 = .ok (.iload_n 0, 1) := dk_26 (dk_at dksJ16_checkBoundsOffCount_0 0 rfl rfl)
theorem dJ16_checkBoundsOffCount_1 : decode cJ16_checkBoundsOffCount 1 = .ok (.iload_n 1, 1) := dk_27 (dk_at dksJ16_checkBoundsOffCount_0 1 rfl rfl)
theorem dJ16_checkBoundsOffCount_2 : decode cJ16_checkBoundsOffCount 2 = .ok (.aload_n 2, 1) := dk_44 (dk_at dksJ16_checkBoundsOffCount_0 2 rfl rfl)
theorem dJ16_checkBoundsOffCount_3 : decode cJ16_checkBoundsOffCount 3 = .ok (.invokestatic 48, 3) := dk_184 0 48 (dk_at dksJ16_checkBoundsOffCount_0 3 rfl rfl)
theorem dJ16_checkBoundsOffCount_6 : decode cJ16_checkBoundsOffCount 6 = .ok (.invokestatic 419, 3) := dk_184 1 163 (dk_at dksJ16_checkBoundsOffCount_0 6 rfl rfl)
theorem dJ16_checkBoundsOffCount_9 : decode cJ16_checkBoundsOffCount 9 = .ok (.pop, 1) := dk_87 (dk_at dksJ16_checkBoundsOffCount_0 9 rfl rfl)
theorem dJ16_checkBoundsOffCount_10 : decode cJ16_checkBoundsOffCount 10 = .ok (.return_, 1) := dk_177 (dk_at dksJ16_checkBoundsOffCount_0 10 rfl rfl)
abbrev iJ16_checkBoundsOffCount : xM := (yJ16_checkBoundsOffCount, cJ16_checkBoundsOffCount, 3, none, [])
theorem mJ16_checkBoundsOffCount : xOkM iJ16_checkBoundsOffCount := ⟨by decide +kernel, by decide, q516, q149⟩
abbrev cJ16_getChars : ByteArray := prog_43_method_77_code
def yJ16_getChars : MethodName := ⟨RJ16, "getChars", "(III[B)I"⟩
def dkwJ16_getChars_1 : List UInt8 := [159, 0, 11, 187, 0, 52, 89, 183, 0, 66, 191, 21, 4, 172]
abbrev dktJ16_getChars_1 : List UInt8 := dkwJ16_getChars_1 ++ []
def dkwJ16_getChars_0 : List UInt8 := [27, 28, 45, 184, 0, 96, 26, 28, 45, 184, 1, 137, 54, 4, 178, 0, 44, 154, 0, 17, 27, 21, 4]
abbrev dktJ16_getChars_0 : List UInt8 := dkwJ16_getChars_0 ++ dktJ16_getChars_1
theorem dksJ16_getChars_0 : cJ16_getChars.data.toList.drop 0 = dktJ16_getChars_0 := by decide +kernel
theorem dksJ16_getChars_1 : cJ16_getChars.data.toList.drop 23 = dktJ16_getChars_1 := dk_seg dksJ16_getChars_0 23 rfl rfl
theorem dJ16_getChars_0 : decode cJ16_getChars 0 = .ok (.iload_n 1, 1) := dk_27 (dk_at dksJ16_getChars_0 0 rfl rfl)
theorem dJ16_getChars_1 : decode cJ16_getChars 1 = .ok (.iload_n 2, 1) := dk_28 (dk_at dksJ16_getChars_0 1 rfl rfl)
theorem dJ16_getChars_2 : decode cJ16_getChars 2 = .ok (.aload_n 3, 1) := dk_45 (dk_at dksJ16_getChars_0 2 rfl rfl)
theorem dJ16_getChars_3 : decode cJ16_getChars 3 = .ok (.invokestatic 96, 3) := dk_184 0 96 (dk_at dksJ16_getChars_0 3 rfl rfl)
theorem dJ16_getChars_6 : decode cJ16_getChars 6 = .ok (.iload_n 0, 1) := dk_26 (dk_at dksJ16_getChars_0 6 rfl rfl)
theorem dJ16_getChars_7 : decode cJ16_getChars 7 = .ok (.iload_n 2, 1) := dk_28 (dk_at dksJ16_getChars_0 7 rfl rfl)
theorem dJ16_getChars_8 : decode cJ16_getChars 8 = .ok (.aload_n 3, 1) := dk_45 (dk_at dksJ16_getChars_0 8 rfl rfl)
theorem dJ16_getChars_9 : decode cJ16_getChars 9 = .ok (.invokestatic 393, 3) := dk_184 1 137 (dk_at dksJ16_getChars_0 9 rfl rfl)
theorem dJ16_getChars_12 : decode cJ16_getChars 12 = .ok (.istore 4, 2) := dk_54 4 (dk_at dksJ16_getChars_0 12 rfl rfl)
theorem dJ16_getChars_14 : decode cJ16_getChars 14 = .ok (.getstatic 44, 3) := dk_178 0 44 (dk_at dksJ16_getChars_0 14 rfl rfl)
theorem dJ16_getChars_17 : decode cJ16_getChars 17 = .ok (.ifCond .ne 17, 3) := dk_154 0 17 (dk_at dksJ16_getChars_0 17 rfl rfl)
theorem dJ16_getChars_20 : decode cJ16_getChars 20 = .ok (.iload_n 1, 1) := dk_27 (dk_at dksJ16_getChars_0 20 rfl rfl)
theorem dJ16_getChars_21 : decode cJ16_getChars 21 = .ok (.iload 4, 2) := dk_21 4 (dk_at dksJ16_getChars_0 21 rfl rfl)
theorem dJ16_getChars_23 : decode cJ16_getChars 23 = .ok (.if_icmp .eq 11, 3) := dk_159 0 11 (dk_at dksJ16_getChars_1 0 rfl rfl)
theorem dJ16_getChars_26 : decode cJ16_getChars 26 = .ok (.new 52, 3) := dk_187 0 52 (dk_at dksJ16_getChars_1 3 rfl rfl)
theorem dJ16_getChars_29 : decode cJ16_getChars 29 = .ok (.dup, 1) := dk_89 (dk_at dksJ16_getChars_1 6 rfl rfl)
theorem dJ16_getChars_30 : decode cJ16_getChars 30 = .ok (.invokespecial 66, 3) := dk_183 0 66 (dk_at dksJ16_getChars_1 7 rfl rfl)
theorem dJ16_getChars_33 : decode cJ16_getChars 33 = .ok (.athrow, 1) := dk_191 (dk_at dksJ16_getChars_1 10 rfl rfl)
theorem dJ16_getChars_34 : decode cJ16_getChars 34 = .ok (.iload 4, 2) := dk_21 4 (dk_at dksJ16_getChars_1 11 rfl rfl)
theorem dJ16_getChars_36 : decode cJ16_getChars 36 = .ok (.ireturn, 1) := dk_172 (dk_at dksJ16_getChars_1 13 rfl rfl)
abbrev iJ16_getChars : xM := (yJ16_getChars, cJ16_getChars, 5, (some .int), [])
theorem mJ16_getChars : xOkM iJ16_getChars := ⟨by decide +kernel, by decide, q548, q149⟩
abbrev cJ16_getChars_2 : ByteArray := prog_43_method_89_code
def yJ16_getChars_2 : MethodName := ⟨RJ16, "getChars", "(II[B)I"⟩
def dkwJ16_getChars_2_5 : List UInt8 := [132, 5, 255, 21, 5, 16, 45, 184, 0, 111, 21, 5, 172]
abbrev dktJ16_getChars_2_5 : List UInt8 := dkwJ16_getChars_2_5 ++ []
def dkwJ16_getChars_2_4 : List UInt8 := [162, 0, 18, 44, 132, 5, 255, 21, 5, 178, 1, 151, 26, 116, 51, 184, 0, 111, 21, 6, 153, 0, 14, 44]
abbrev dktJ16_getChars_2_4 : List UInt8 := dkwJ16_getChars_2_4 ++ dktJ16_getChars_2_5
def dkwJ16_getChars_2_3 : List UInt8 := [184, 0, 111, 167, 255, 205, 44, 132, 5, 255, 21, 5, 178, 1, 147, 26, 116, 51, 184, 0, 111, 26, 16, 247]
abbrev dktJ16_getChars_2_3 : List UInt8 := dkwJ16_getChars_2_3 ++ dktJ16_getChars_2_4
def dkwJ16_getChars_2_2 : List UInt8 := [21, 5, 178, 1, 147, 21, 4, 51, 184, 0, 111, 44, 132, 5, 255, 21, 5, 178, 1, 151, 21, 4, 51]
abbrev dktJ16_getChars_2_2 : List UInt8 := dkwJ16_getChars_2_2 ++ dktJ16_getChars_2_3
def dkwJ16_getChars_2_1 : List UInt8 := [16, 156, 163, 0, 51, 26, 16, 100, 108, 62, 29, 16, 100, 104, 26, 100, 54, 4, 29, 59, 44, 132, 5, 255]
abbrev dktJ16_getChars_2_1 : List UInt8 := dkwJ16_getChars_2_1 ++ dktJ16_getChars_2_2
def dkwJ16_getChars_2_0 : List UInt8 := [27, 54, 5, 26, 156, 0, 7, 4, 167, 0, 4, 3, 54, 6, 21, 6, 154, 0, 6, 26, 116, 59, 26]
abbrev dktJ16_getChars_2_0 : List UInt8 := dkwJ16_getChars_2_0 ++ dktJ16_getChars_2_1
theorem dksJ16_getChars_2_0 : cJ16_getChars_2.data.toList.drop 0 = dktJ16_getChars_2_0 := by decide +kernel
theorem dksJ16_getChars_2_1 : cJ16_getChars_2.data.toList.drop 23 = dktJ16_getChars_2_1 := dk_seg dksJ16_getChars_2_0 23 rfl rfl
theorem dksJ16_getChars_2_2 : cJ16_getChars_2.data.toList.drop 47 = dktJ16_getChars_2_2 := dk_seg dksJ16_getChars_2_1 24 rfl rfl
theorem dksJ16_getChars_2_3 : cJ16_getChars_2.data.toList.drop 70 = dktJ16_getChars_2_3 := dk_seg dksJ16_getChars_2_2 23 rfl rfl
theorem dksJ16_getChars_2_4 : cJ16_getChars_2.data.toList.drop 94 = dktJ16_getChars_2_4 := dk_seg dksJ16_getChars_2_3 24 rfl rfl
theorem dksJ16_getChars_2_5 : cJ16_getChars_2.data.toList.drop 118 = dktJ16_getChars_2_5 := dk_seg dksJ16_getChars_2_4 24 rfl rfl
theorem dJ16_getChars_2_0 : decode cJ16_getChars_2 0 = .ok (.iload_n 1, 1) := dk_27 (dk_at dksJ16_getChars_2_0 0 rfl rfl)
theorem dJ16_getChars_2_1 : decode cJ16_getChars_2 1 = .ok (.istore 5, 2) := dk_54 5 (dk_at dksJ16_getChars_2_0 1 rfl rfl)
theorem dJ16_getChars_2_3 : decode cJ16_getChars_2 3 = .ok (.iload_n 0, 1) := dk_26 (dk_at dksJ16_getChars_2_0 3 rfl rfl)
theorem dJ16_getChars_2_4 : decode cJ16_getChars_2 4 = .ok (.ifCond .ge 7, 3) := dk_156 0 7 (dk_at dksJ16_getChars_2_0 4 rfl rfl)
theorem dJ16_getChars_2_7 : decode cJ16_getChars_2 7 = .ok (.iconst 1, 1) := dk_4 (dk_at dksJ16_getChars_2_0 7 rfl rfl)
theorem dJ16_getChars_2_8 : decode cJ16_getChars_2 8 = .ok (.goto 4, 3) := dk_167 0 4 (dk_at dksJ16_getChars_2_0 8 rfl rfl)
theorem dJ16_getChars_2_11 : decode cJ16_getChars_2 11 = .ok (.iconst 0, 1) := dk_3 (dk_at dksJ16_getChars_2_0 11 rfl rfl)
theorem dJ16_getChars_2_12 : decode cJ16_getChars_2 12 = .ok (.istore 6, 2) := dk_54 6 (dk_at dksJ16_getChars_2_0 12 rfl rfl)
theorem dJ16_getChars_2_14 : decode cJ16_getChars_2 14 = .ok (.iload 6, 2) := dk_21 6 (dk_at dksJ16_getChars_2_0 14 rfl rfl)
theorem dJ16_getChars_2_16 : decode cJ16_getChars_2 16 = .ok (.ifCond .ne 6, 3) := dk_154 0 6 (dk_at dksJ16_getChars_2_0 16 rfl rfl)
theorem dJ16_getChars_2_19 : decode cJ16_getChars_2 19 = .ok (.iload_n 0, 1) := dk_26 (dk_at dksJ16_getChars_2_0 19 rfl rfl)
theorem dJ16_getChars_2_20 : decode cJ16_getChars_2 20 = .ok (.ineg, 1) := dk_116 (dk_at dksJ16_getChars_2_0 20 rfl rfl)
theorem dJ16_getChars_2_21 : decode cJ16_getChars_2 21 = .ok (.istore_n 0, 1) := dk_59 (dk_at dksJ16_getChars_2_0 21 rfl rfl)
theorem dJ16_getChars_2_22 : decode cJ16_getChars_2 22 = .ok (.iload_n 0, 1) := dk_26 (dk_at dksJ16_getChars_2_0 22 rfl rfl)
theorem dJ16_getChars_2_23 : decode cJ16_getChars_2 23 = .ok (.bipush (-100), 2) := dk_16 156 (dk_at dksJ16_getChars_2_1 0 rfl rfl)
theorem dJ16_getChars_2_25 : decode cJ16_getChars_2 25 = .ok (.if_icmp .gt 51, 3) := dk_163 0 51 (dk_at dksJ16_getChars_2_1 2 rfl rfl)
theorem dJ16_getChars_2_28 : decode cJ16_getChars_2 28 = .ok (.iload_n 0, 1) := dk_26 (dk_at dksJ16_getChars_2_1 5 rfl rfl)
theorem dJ16_getChars_2_29 : decode cJ16_getChars_2 29 = .ok (.bipush 100, 2) := dk_16 100 (dk_at dksJ16_getChars_2_1 6 rfl rfl)
theorem dJ16_getChars_2_31 : decode cJ16_getChars_2 31 = .ok (.idiv, 1) := dk_108 (dk_at dksJ16_getChars_2_1 8 rfl rfl)
theorem dJ16_getChars_2_32 : decode cJ16_getChars_2 32 = .ok (.istore_n 3, 1) := dk_62 (dk_at dksJ16_getChars_2_1 9 rfl rfl)
theorem dJ16_getChars_2_33 : decode cJ16_getChars_2 33 = .ok (.iload_n 3, 1) := dk_29 (dk_at dksJ16_getChars_2_1 10 rfl rfl)
theorem dJ16_getChars_2_34 : decode cJ16_getChars_2 34 = .ok (.bipush 100, 2) := dk_16 100 (dk_at dksJ16_getChars_2_1 11 rfl rfl)
theorem dJ16_getChars_2_36 : decode cJ16_getChars_2 36 = .ok (.imul, 1) := dk_104 (dk_at dksJ16_getChars_2_1 13 rfl rfl)
theorem dJ16_getChars_2_37 : decode cJ16_getChars_2 37 = .ok (.iload_n 0, 1) := dk_26 (dk_at dksJ16_getChars_2_1 14 rfl rfl)
theorem dJ16_getChars_2_38 : decode cJ16_getChars_2 38 = .ok (.isub, 1) := dk_100 (dk_at dksJ16_getChars_2_1 15 rfl rfl)
theorem dJ16_getChars_2_39 : decode cJ16_getChars_2 39 = .ok (.istore 4, 2) := dk_54 4 (dk_at dksJ16_getChars_2_1 16 rfl rfl)
theorem dJ16_getChars_2_41 : decode cJ16_getChars_2 41 = .ok (.iload_n 3, 1) := dk_29 (dk_at dksJ16_getChars_2_1 18 rfl rfl)
theorem dJ16_getChars_2_42 : decode cJ16_getChars_2 42 = .ok (.istore_n 0, 1) := dk_59 (dk_at dksJ16_getChars_2_1 19 rfl rfl)
theorem dJ16_getChars_2_43 : decode cJ16_getChars_2 43 = .ok (.aload_n 2, 1) := dk_44 (dk_at dksJ16_getChars_2_1 20 rfl rfl)
theorem dJ16_getChars_2_44 : decode cJ16_getChars_2 44 = .ok (.iinc 5 (-1), 3) := dk_132 5 255 (dk_at dksJ16_getChars_2_1 21 rfl rfl)
theorem dJ16_getChars_2_47 : decode cJ16_getChars_2 47 = .ok (.iload 5, 2) := dk_21 5 (dk_at dksJ16_getChars_2_2 0 rfl rfl)
theorem dJ16_getChars_2_49 : decode cJ16_getChars_2 49 = .ok (.getstatic 403, 3) := dk_178 1 147 (dk_at dksJ16_getChars_2_2 2 rfl rfl)
theorem dJ16_getChars_2_52 : decode cJ16_getChars_2 52 = .ok (.iload 4, 2) := dk_21 4 (dk_at dksJ16_getChars_2_2 5 rfl rfl)
theorem dJ16_getChars_2_54 : decode cJ16_getChars_2 54 = .ok (.baload, 1) := dk_51 (dk_at dksJ16_getChars_2_2 7 rfl rfl)
theorem dJ16_getChars_2_55 : decode cJ16_getChars_2 55 = .ok (.invokestatic 111, 3) := dk_184 0 111 (dk_at dksJ16_getChars_2_2 8 rfl rfl)
theorem dJ16_getChars_2_58 : decode cJ16_getChars_2 58 = .ok (.aload_n 2, 1) := dk_44 (dk_at dksJ16_getChars_2_2 11 rfl rfl)
theorem dJ16_getChars_2_59 : decode cJ16_getChars_2 59 = .ok (.iinc 5 (-1), 3) := dk_132 5 255 (dk_at dksJ16_getChars_2_2 12 rfl rfl)
theorem dJ16_getChars_2_62 : decode cJ16_getChars_2 62 = .ok (.iload 5, 2) := dk_21 5 (dk_at dksJ16_getChars_2_2 15 rfl rfl)
theorem dJ16_getChars_2_64 : decode cJ16_getChars_2 64 = .ok (.getstatic 407, 3) := dk_178 1 151 (dk_at dksJ16_getChars_2_2 17 rfl rfl)
theorem dJ16_getChars_2_67 : decode cJ16_getChars_2 67 = .ok (.iload 4, 2) := dk_21 4 (dk_at dksJ16_getChars_2_2 20 rfl rfl)
theorem dJ16_getChars_2_69 : decode cJ16_getChars_2 69 = .ok (.baload, 1) := dk_51 (dk_at dksJ16_getChars_2_2 22 rfl rfl)
theorem dJ16_getChars_2_70 : decode cJ16_getChars_2 70 = .ok (.invokestatic 111, 3) := dk_184 0 111 (dk_at dksJ16_getChars_2_3 0 rfl rfl)
theorem dJ16_getChars_2_73 : decode cJ16_getChars_2 73 = .ok (.goto (-51), 3) := dk_167 255 205 (dk_at dksJ16_getChars_2_3 3 rfl rfl)
theorem dJ16_getChars_2_76 : decode cJ16_getChars_2 76 = .ok (.aload_n 2, 1) := dk_44 (dk_at dksJ16_getChars_2_3 6 rfl rfl)
theorem dJ16_getChars_2_77 : decode cJ16_getChars_2 77 = .ok (.iinc 5 (-1), 3) := dk_132 5 255 (dk_at dksJ16_getChars_2_3 7 rfl rfl)
theorem dJ16_getChars_2_80 : decode cJ16_getChars_2 80 = .ok (.iload 5, 2) := dk_21 5 (dk_at dksJ16_getChars_2_3 10 rfl rfl)
theorem dJ16_getChars_2_82 : decode cJ16_getChars_2 82 = .ok (.getstatic 403, 3) := dk_178 1 147 (dk_at dksJ16_getChars_2_3 12 rfl rfl)
theorem dJ16_getChars_2_85 : decode cJ16_getChars_2 85 = .ok (.iload_n 0, 1) := dk_26 (dk_at dksJ16_getChars_2_3 15 rfl rfl)
theorem dJ16_getChars_2_86 : decode cJ16_getChars_2 86 = .ok (.ineg, 1) := dk_116 (dk_at dksJ16_getChars_2_3 16 rfl rfl)
theorem dJ16_getChars_2_87 : decode cJ16_getChars_2 87 = .ok (.baload, 1) := dk_51 (dk_at dksJ16_getChars_2_3 17 rfl rfl)
theorem dJ16_getChars_2_88 : decode cJ16_getChars_2 88 = .ok (.invokestatic 111, 3) := dk_184 0 111 (dk_at dksJ16_getChars_2_3 18 rfl rfl)
theorem dJ16_getChars_2_91 : decode cJ16_getChars_2 91 = .ok (.iload_n 0, 1) := dk_26 (dk_at dksJ16_getChars_2_3 21 rfl rfl)
theorem dJ16_getChars_2_92 : decode cJ16_getChars_2 92 = .ok (.bipush (-9), 2) := dk_16 247 (dk_at dksJ16_getChars_2_3 22 rfl rfl)
theorem dJ16_getChars_2_94 : decode cJ16_getChars_2 94 = .ok (.if_icmp .ge 18, 3) := dk_162 0 18 (dk_at dksJ16_getChars_2_4 0 rfl rfl)
theorem dJ16_getChars_2_97 : decode cJ16_getChars_2 97 = .ok (.aload_n 2, 1) := dk_44 (dk_at dksJ16_getChars_2_4 3 rfl rfl)
theorem dJ16_getChars_2_98 : decode cJ16_getChars_2 98 = .ok (.iinc 5 (-1), 3) := dk_132 5 255 (dk_at dksJ16_getChars_2_4 4 rfl rfl)
theorem dJ16_getChars_2_101 : decode cJ16_getChars_2 101 = .ok (.iload 5, 2) := dk_21 5 (dk_at dksJ16_getChars_2_4 7 rfl rfl)
theorem dJ16_getChars_2_103 : decode cJ16_getChars_2 103 = .ok (.getstatic 407, 3) := dk_178 1 151 (dk_at dksJ16_getChars_2_4 9 rfl rfl)
theorem dJ16_getChars_2_106 : decode cJ16_getChars_2 106 = .ok (.iload_n 0, 1) := dk_26 (dk_at dksJ16_getChars_2_4 12 rfl rfl)
theorem dJ16_getChars_2_107 : decode cJ16_getChars_2 107 = .ok (.ineg, 1) := dk_116 (dk_at dksJ16_getChars_2_4 13 rfl rfl)
theorem dJ16_getChars_2_108 : decode cJ16_getChars_2 108 = .ok (.baload, 1) := dk_51 (dk_at dksJ16_getChars_2_4 14 rfl rfl)
theorem dJ16_getChars_2_109 : decode cJ16_getChars_2 109 = .ok (.invokestatic 111, 3) := dk_184 0 111 (dk_at dksJ16_getChars_2_4 15 rfl rfl)
theorem dJ16_getChars_2_112 : decode cJ16_getChars_2 112 = .ok (.iload 6, 2) := dk_21 6 (dk_at dksJ16_getChars_2_4 18 rfl rfl)
theorem dJ16_getChars_2_114 : decode cJ16_getChars_2 114 = .ok (.ifCond .eq 14, 3) := dk_153 0 14 (dk_at dksJ16_getChars_2_4 20 rfl rfl)
theorem dJ16_getChars_2_117 : decode cJ16_getChars_2 117 = .ok (.aload_n 2, 1) := dk_44 (dk_at dksJ16_getChars_2_4 23 rfl rfl)
theorem dJ16_getChars_2_118 : decode cJ16_getChars_2 118 = .ok (.iinc 5 (-1), 3) := dk_132 5 255 (dk_at dksJ16_getChars_2_5 0 rfl rfl)
theorem dJ16_getChars_2_121 : decode cJ16_getChars_2 121 = .ok (.iload 5, 2) := dk_21 5 (dk_at dksJ16_getChars_2_5 3 rfl rfl)
theorem dJ16_getChars_2_123 : decode cJ16_getChars_2 123 = .ok (.bipush 45, 2) := dk_16 45 (dk_at dksJ16_getChars_2_5 5 rfl rfl)
theorem dJ16_getChars_2_125 : decode cJ16_getChars_2 125 = .ok (.invokestatic 111, 3) := dk_184 0 111 (dk_at dksJ16_getChars_2_5 7 rfl rfl)
theorem dJ16_getChars_2_128 : decode cJ16_getChars_2 128 = .ok (.iload 5, 2) := dk_21 5 (dk_at dksJ16_getChars_2_5 10 rfl rfl)
theorem dJ16_getChars_2_130 : decode cJ16_getChars_2 130 = .ok (.ireturn, 1) := dk_172 (dk_at dksJ16_getChars_2_5 12 rfl rfl)
abbrev iJ16_getChars_2 : xM := (yJ16_getChars_2, cJ16_getChars_2, 7, (some .int), [])
theorem mJ16_getChars_2 : xOkM iJ16_getChars_2 := ⟨by decide +kernel, by decide, q551, q149⟩
abbrev cJ16_compress : ByteArray := prog_43_method_17_code
def yJ16_compress : MethodName := ⟨RJ16, "compress", "([BII)[B"⟩
def dkwJ16_compress_2 : List UInt8 := [25, 5, 3, 45, 3, 28, 184, 0, 123, 28, 159, 0, 6, 25, 5, 176, 45, 176]
abbrev dktJ16_compress_2 : List UInt8 := dkwJ16_compress_2 ++ []
def dkwJ16_compress_1 : List UInt8 := [27, 28, 96, 184, 0, 11, 184, 0, 126, 58, 5, 25, 5, 21, 4, 184, 0, 71, 17, 0, 255, 163, 0, 16]
abbrev dktJ16_compress_1 : List UInt8 := dkwJ16_compress_1 ++ dktJ16_compress_2
def dkwJ16_compress_0 : List UInt8 := [28, 188, 8, 78, 42, 27, 45, 3, 28, 184, 0, 123, 54, 4, 21, 4, 28, 159, 0, 47, 42, 27, 4, 120]
abbrev dktJ16_compress_0 : List UInt8 := dkwJ16_compress_0 ++ dktJ16_compress_1
theorem dksJ16_compress_0 : cJ16_compress.data.toList.drop 0 = dktJ16_compress_0 := by decide +kernel
theorem dksJ16_compress_1 : cJ16_compress.data.toList.drop 24 = dktJ16_compress_1 := dk_seg dksJ16_compress_0 24 rfl rfl
theorem dksJ16_compress_2 : cJ16_compress.data.toList.drop 48 = dktJ16_compress_2 := dk_seg dksJ16_compress_1 24 rfl rfl
theorem dJ16_compress_0 : decode cJ16_compress 0 = .ok (.iload_n 2, 1) := dk_28 (dk_at dksJ16_compress_0 0 rfl rfl)
theorem dJ16_compress_1 : decode cJ16_compress 1 = .ok (.newarray .byte, 2) := dk_188_8 (dk_at dksJ16_compress_0 1 rfl rfl)
theorem dJ16_compress_3 : decode cJ16_compress 3 = .ok (.astore_n 3, 1) := dk_78 (dk_at dksJ16_compress_0 3 rfl rfl)
theorem dJ16_compress_4 : decode cJ16_compress 4 = .ok (.aload_n 0, 1) := dk_42 (dk_at dksJ16_compress_0 4 rfl rfl)
theorem dJ16_compress_5 : decode cJ16_compress 5 = .ok (.iload_n 1, 1) := dk_27 (dk_at dksJ16_compress_0 5 rfl rfl)
theorem dJ16_compress_6 : decode cJ16_compress 6 = .ok (.aload_n 3, 1) := dk_45 (dk_at dksJ16_compress_0 6 rfl rfl)
theorem dJ16_compress_7 : decode cJ16_compress 7 = .ok (.iconst 0, 1) := dk_3 (dk_at dksJ16_compress_0 7 rfl rfl)
theorem dJ16_compress_8 : decode cJ16_compress 8 = .ok (.iload_n 2, 1) := dk_28 (dk_at dksJ16_compress_0 8 rfl rfl)
theorem dJ16_compress_9 : decode cJ16_compress 9 = .ok (.invokestatic 123, 3) := dk_184 0 123 (dk_at dksJ16_compress_0 9 rfl rfl)
theorem dJ16_compress_12 : decode cJ16_compress 12 = .ok (.istore 4, 2) := dk_54 4 (dk_at dksJ16_compress_0 12 rfl rfl)
theorem dJ16_compress_14 : decode cJ16_compress 14 = .ok (.iload 4, 2) := dk_21 4 (dk_at dksJ16_compress_0 14 rfl rfl)
theorem dJ16_compress_16 : decode cJ16_compress 16 = .ok (.iload_n 2, 1) := dk_28 (dk_at dksJ16_compress_0 16 rfl rfl)
theorem dJ16_compress_17 : decode cJ16_compress 17 = .ok (.if_icmp .eq 47, 3) := dk_159 0 47 (dk_at dksJ16_compress_0 17 rfl rfl)
theorem dJ16_compress_20 : decode cJ16_compress 20 = .ok (.aload_n 0, 1) := dk_42 (dk_at dksJ16_compress_0 20 rfl rfl)
theorem dJ16_compress_21 : decode cJ16_compress 21 = .ok (.iload_n 1, 1) := dk_27 (dk_at dksJ16_compress_0 21 rfl rfl)
theorem dJ16_compress_22 : decode cJ16_compress 22 = .ok (.iconst 1, 1) := dk_4 (dk_at dksJ16_compress_0 22 rfl rfl)
theorem dJ16_compress_23 : decode cJ16_compress 23 = .ok (.ishl, 1) := dk_120 (dk_at dksJ16_compress_0 23 rfl rfl)
theorem dJ16_compress_24 : decode cJ16_compress 24 = .ok (.iload_n 1, 1) := dk_27 (dk_at dksJ16_compress_1 0 rfl rfl)
theorem dJ16_compress_25 : decode cJ16_compress 25 = .ok (.iload_n 2, 1) := dk_28 (dk_at dksJ16_compress_1 1 rfl rfl)
theorem dJ16_compress_26 : decode cJ16_compress 26 = .ok (.iadd, 1) := dk_96 (dk_at dksJ16_compress_1 2 rfl rfl)
theorem dJ16_compress_27 : decode cJ16_compress 27 = .ok (.invokestatic 11, 3) := dk_184 0 11 (dk_at dksJ16_compress_1 3 rfl rfl)
theorem dJ16_compress_30 : decode cJ16_compress 30 = .ok (.invokestatic 126, 3) := dk_184 0 126 (dk_at dksJ16_compress_1 6 rfl rfl)
theorem dJ16_compress_33 : decode cJ16_compress 33 = .ok (.astore 5, 2) := dk_58 5 (dk_at dksJ16_compress_1 9 rfl rfl)
theorem dJ16_compress_35 : decode cJ16_compress 35 = .ok (.aload 5, 2) := dk_25 5 (dk_at dksJ16_compress_1 11 rfl rfl)
theorem dJ16_compress_37 : decode cJ16_compress 37 = .ok (.iload 4, 2) := dk_21 4 (dk_at dksJ16_compress_1 13 rfl rfl)
theorem dJ16_compress_39 : decode cJ16_compress 39 = .ok (.invokestatic 71, 3) := dk_184 0 71 (dk_at dksJ16_compress_1 15 rfl rfl)
theorem dJ16_compress_42 : decode cJ16_compress 42 = .ok (.sipush 255, 3) := dk_17 0 255 (dk_at dksJ16_compress_1 18 rfl rfl)
theorem dJ16_compress_45 : decode cJ16_compress 45 = .ok (.if_icmp .gt 16, 3) := dk_163 0 16 (dk_at dksJ16_compress_1 21 rfl rfl)
theorem dJ16_compress_48 : decode cJ16_compress 48 = .ok (.aload 5, 2) := dk_25 5 (dk_at dksJ16_compress_2 0 rfl rfl)
theorem dJ16_compress_50 : decode cJ16_compress 50 = .ok (.iconst 0, 1) := dk_3 (dk_at dksJ16_compress_2 2 rfl rfl)
theorem dJ16_compress_51 : decode cJ16_compress 51 = .ok (.aload_n 3, 1) := dk_45 (dk_at dksJ16_compress_2 3 rfl rfl)
theorem dJ16_compress_52 : decode cJ16_compress 52 = .ok (.iconst 0, 1) := dk_3 (dk_at dksJ16_compress_2 4 rfl rfl)
theorem dJ16_compress_53 : decode cJ16_compress 53 = .ok (.iload_n 2, 1) := dk_28 (dk_at dksJ16_compress_2 5 rfl rfl)
theorem dJ16_compress_54 : decode cJ16_compress 54 = .ok (.invokestatic 123, 3) := dk_184 0 123 (dk_at dksJ16_compress_2 6 rfl rfl)
theorem dJ16_compress_57 : decode cJ16_compress 57 = .ok (.iload_n 2, 1) := dk_28 (dk_at dksJ16_compress_2 9 rfl rfl)
theorem dJ16_compress_58 : decode cJ16_compress 58 = .ok (.if_icmp .eq 6, 3) := dk_159 0 6 (dk_at dksJ16_compress_2 10 rfl rfl)
theorem dJ16_compress_61 : decode cJ16_compress 61 = .ok (.aload 5, 2) := dk_25 5 (dk_at dksJ16_compress_2 13 rfl rfl)
theorem dJ16_compress_63 : decode cJ16_compress 63 = .ok (.areturn, 1) := dk_176 (dk_at dksJ16_compress_2 15 rfl rfl)
theorem dJ16_compress_64 : decode cJ16_compress 64 = .ok (.aload_n 3, 1) := dk_45 (dk_at dksJ16_compress_2 16 rfl rfl)
theorem dJ16_compress_65 : decode cJ16_compress 65 = .ok (.areturn, 1) := dk_176 (dk_at dksJ16_compress_2 17 rfl rfl)
abbrev iJ16_compress : xM := (yJ16_compress, cJ16_compress, 6, (some (.array .byte)), [])
theorem mJ16_compress : xOkM iJ16_compress := ⟨by decide +kernel, by decide, q624, q149⟩
abbrev cJ16_compress_2 : ByteArray := prog_43_method_22_code
def yJ16_compress_2 : MethodName := ⟨RJ16, "compress", "([BI[BII)I"⟩
def dkwJ16_compress_2_2 : List UInt8 := [132, 5, 1, 167, 255, 216, 21, 4, 172]
abbrev dktJ16_compress_2_2 : List UInt8 := dkwJ16_compress_2_2 ++ []
def dkwJ16_compress_2_1 : List UInt8 := [21, 6, 17, 0, 255, 164, 0, 6, 21, 5, 172, 44, 29, 21, 6, 145, 84, 132, 1, 1, 132, 3, 1]
abbrev dktJ16_compress_2_1 : List UInt8 := dkwJ16_compress_2_1 ++ dktJ16_compress_2_2
def dkwJ16_compress_2_0 : List UInt8 := [27, 21, 4, 42, 184, 0, 173, 3, 54, 5, 21, 5, 21, 4, 162, 0, 39, 42, 27, 184, 0, 71, 54, 6]
abbrev dktJ16_compress_2_0 : List UInt8 := dkwJ16_compress_2_0 ++ dktJ16_compress_2_1
theorem dksJ16_compress_2_0 : cJ16_compress_2.data.toList.drop 0 = dktJ16_compress_2_0 := by decide +kernel
theorem dksJ16_compress_2_1 : cJ16_compress_2.data.toList.drop 24 = dktJ16_compress_2_1 := dk_seg dksJ16_compress_2_0 24 rfl rfl
theorem dksJ16_compress_2_2 : cJ16_compress_2.data.toList.drop 47 = dktJ16_compress_2_2 := dk_seg dksJ16_compress_2_1 23 rfl rfl
theorem dJ16_compress_2_0 : decode cJ16_compress_2 0 = .ok (.iload_n 1, 1) := dk_27 (dk_at dksJ16_compress_2_0 0 rfl rfl)
theorem dJ16_compress_2_1 : decode cJ16_compress_2 1 = .ok (.iload 4, 2) := dk_21 4 (dk_at dksJ16_compress_2_0 1 rfl rfl)
theorem dJ16_compress_2_3 : decode cJ16_compress_2 3 = .ok (.aload_n 0, 1) := dk_42 (dk_at dksJ16_compress_2_0 3 rfl rfl)
theorem dJ16_compress_2_4 : decode cJ16_compress_2 4 = .ok (.invokestatic 173, 3) := dk_184 0 173 (dk_at dksJ16_compress_2_0 4 rfl rfl)
theorem dJ16_compress_2_7 : decode cJ16_compress_2 7 = .ok (.iconst 0, 1) := dk_3 (dk_at dksJ16_compress_2_0 7 rfl rfl)
theorem dJ16_compress_2_8 : decode cJ16_compress_2 8 = .ok (.istore 5, 2) := dk_54 5 (dk_at dksJ16_compress_2_0 8 rfl rfl)
theorem dJ16_compress_2_10 : decode cJ16_compress_2 10 = .ok (.iload 5, 2) := dk_21 5 (dk_at dksJ16_compress_2_0 10 rfl rfl)
theorem dJ16_compress_2_12 : decode cJ16_compress_2 12 = .ok (.iload 4, 2) := dk_21 4 (dk_at dksJ16_compress_2_0 12 rfl rfl)
theorem dJ16_compress_2_14 : decode cJ16_compress_2 14 = .ok (.if_icmp .ge 39, 3) := dk_162 0 39 (dk_at dksJ16_compress_2_0 14 rfl rfl)
theorem dJ16_compress_2_17 : decode cJ16_compress_2 17 = .ok (.aload_n 0, 1) := dk_42 (dk_at dksJ16_compress_2_0 17 rfl rfl)
theorem dJ16_compress_2_18 : decode cJ16_compress_2 18 = .ok (.iload_n 1, 1) := dk_27 (dk_at dksJ16_compress_2_0 18 rfl rfl)
theorem dJ16_compress_2_19 : decode cJ16_compress_2 19 = .ok (.invokestatic 71, 3) := dk_184 0 71 (dk_at dksJ16_compress_2_0 19 rfl rfl)
theorem dJ16_compress_2_22 : decode cJ16_compress_2 22 = .ok (.istore 6, 2) := dk_54 6 (dk_at dksJ16_compress_2_0 22 rfl rfl)
theorem dJ16_compress_2_24 : decode cJ16_compress_2 24 = .ok (.iload 6, 2) := dk_21 6 (dk_at dksJ16_compress_2_1 0 rfl rfl)
theorem dJ16_compress_2_26 : decode cJ16_compress_2 26 = .ok (.sipush 255, 3) := dk_17 0 255 (dk_at dksJ16_compress_2_1 2 rfl rfl)
theorem dJ16_compress_2_29 : decode cJ16_compress_2 29 = .ok (.if_icmp .le 6, 3) := dk_164 0 6 (dk_at dksJ16_compress_2_1 5 rfl rfl)
theorem dJ16_compress_2_32 : decode cJ16_compress_2 32 = .ok (.iload 5, 2) := dk_21 5 (dk_at dksJ16_compress_2_1 8 rfl rfl)
theorem dJ16_compress_2_34 : decode cJ16_compress_2 34 = .ok (.ireturn, 1) := dk_172 (dk_at dksJ16_compress_2_1 10 rfl rfl)
theorem dJ16_compress_2_35 : decode cJ16_compress_2 35 = .ok (.aload_n 2, 1) := dk_44 (dk_at dksJ16_compress_2_1 11 rfl rfl)
theorem dJ16_compress_2_36 : decode cJ16_compress_2 36 = .ok (.iload_n 3, 1) := dk_29 (dk_at dksJ16_compress_2_1 12 rfl rfl)
theorem dJ16_compress_2_37 : decode cJ16_compress_2 37 = .ok (.iload 6, 2) := dk_21 6 (dk_at dksJ16_compress_2_1 13 rfl rfl)
theorem dJ16_compress_2_39 : decode cJ16_compress_2 39 = .ok (.i2b, 1) := dk_145 (dk_at dksJ16_compress_2_1 15 rfl rfl)
theorem dJ16_compress_2_40 : decode cJ16_compress_2 40 = .ok (.bastore, 1) := dk_84 (dk_at dksJ16_compress_2_1 16 rfl rfl)
theorem dJ16_compress_2_41 : decode cJ16_compress_2 41 = .ok (.iinc 1 1, 3) := dk_132 1 1 (dk_at dksJ16_compress_2_1 17 rfl rfl)
theorem dJ16_compress_2_44 : decode cJ16_compress_2 44 = .ok (.iinc 3 1, 3) := dk_132 3 1 (dk_at dksJ16_compress_2_1 20 rfl rfl)
theorem dJ16_compress_2_47 : decode cJ16_compress_2 47 = .ok (.iinc 5 1, 3) := dk_132 5 1 (dk_at dksJ16_compress_2_2 0 rfl rfl)
theorem dJ16_compress_2_50 : decode cJ16_compress_2 50 = .ok (.goto (-40), 3) := dk_167 255 216 (dk_at dksJ16_compress_2_2 3 rfl rfl)
theorem dJ16_compress_2_53 : decode cJ16_compress_2 53 = .ok (.iload 4, 2) := dk_21 4 (dk_at dksJ16_compress_2_2 6 rfl rfl)
theorem dJ16_compress_2_55 : decode cJ16_compress_2 55 = .ok (.ireturn, 1) := dk_172 (dk_at dksJ16_compress_2_2 8 rfl rfl)
abbrev iJ16_compress_2 : xM := (yJ16_compress_2, cJ16_compress_2, 7, (some .int), [])
theorem mJ16_compress_2 : xOkM iJ16_compress_2 := ⟨by decide +kernel, by decide, q627, q149⟩
abbrev cJ16_getChar : ByteArray := prog_43_method_5_code
def yJ16_getChar : MethodName := ⟨RJ16, "getChar", "([BI)C"⟩
def dkwJ16_getChar_2 : List UInt8 := [51, 17, 0, 255, 126, 178, 0, 63, 120, 128, 146, 172]
abbrev dktJ16_getChar_2 : List UInt8 := dkwJ16_getChar_2 ++ []
def dkwJ16_getChar_1 : List UInt8 := [183, 0, 56, 191, 27, 4, 120, 60, 42, 27, 132, 1, 1, 51, 17, 0, 255, 126, 178, 0, 59, 120, 42, 27]
abbrev dktJ16_getChar_1 : List UInt8 := dkwJ16_getChar_1 ++ dktJ16_getChar_2
def dkwJ16_getChar_0 : List UInt8 := [178, 0, 44, 154, 0, 25, 27, 155, 0, 11, 27, 42, 184, 0, 48, 161, 0, 13, 187, 0, 52, 89, 18, 54]
abbrev dktJ16_getChar_0 : List UInt8 := dkwJ16_getChar_0 ++ dktJ16_getChar_1
theorem dksJ16_getChar_0 : cJ16_getChar.data.toList.drop 0 = dktJ16_getChar_0 := by decide +kernel
theorem dksJ16_getChar_1 : cJ16_getChar.data.toList.drop 24 = dktJ16_getChar_1 := dk_seg dksJ16_getChar_0 24 rfl rfl
theorem dksJ16_getChar_2 : cJ16_getChar.data.toList.drop 48 = dktJ16_getChar_2 := dk_seg dksJ16_getChar_1 24 rfl rfl
theorem dJ16_getChar_0 : decode cJ16_getChar 0 = .ok (.getstatic 44, 3) := dk_178 0 44 (dk_at dksJ16_getChar_0 0 rfl rfl)
theorem dJ16_getChar_3 : decode cJ16_getChar 3 = .ok (.ifCond .ne 25, 3) := dk_154 0 25 (dk_at dksJ16_getChar_0 3 rfl rfl)
theorem dJ16_getChar_6 : decode cJ16_getChar 6 = .ok (.iload_n 1, 1) := dk_27 (dk_at dksJ16_getChar_0 6 rfl rfl)
theorem dJ16_getChar_7 : decode cJ16_getChar 7 = .ok (.ifCond .lt 11, 3) := dk_155 0 11 (dk_at dksJ16_getChar_0 7 rfl rfl)
theorem dJ16_getChar_10 : decode cJ16_getChar 10 = .ok (.iload_n 1, 1) := dk_27 (dk_at dksJ16_getChar_0 10 rfl rfl)
theorem dJ16_getChar_11 : decode cJ16_getChar 11 = .ok (.aload_n 0, 1) := dk_42 (dk_at dksJ16_getChar_0 11 rfl rfl)
theorem dJ16_getChar_12 : decode cJ16_getChar 12 = .ok (.invokestatic 48, 3) := dk_184 0 48 (dk_at dksJ16_getChar_0 12 rfl rfl)
theorem dJ16_getChar_15 : decode cJ16_getChar 15 = .ok (.if_icmp .lt 13, 3) := dk_161 0 13 (dk_at dksJ16_getChar_0 15 rfl rfl)
theorem dJ16_getChar_18 : decode cJ16_getChar 18 = .ok (.new 52, 3) := dk_187 0 52 (dk_at dksJ16_getChar_0 18 rfl rfl)
theorem dJ16_getChar_21 : decode cJ16_getChar 21 = .ok (.dup, 1) := dk_89 (dk_at dksJ16_getChar_0 21 rfl rfl)
theorem dJ16_getChar_22 : decode cJ16_getChar 22 = .ok (.ldc 54, 2) := dk_18 54 (dk_at dksJ16_getChar_0 22 rfl rfl)
theorem dJ16_getChar_24 : decode cJ16_getChar 24 = .ok (.invokespecial 56, 3) := dk_183 0 56 (dk_at dksJ16_getChar_1 0 rfl rfl)
theorem dJ16_getChar_27 : decode cJ16_getChar 27 = .ok (.athrow, 1) := dk_191 (dk_at dksJ16_getChar_1 3 rfl rfl)
theorem dJ16_getChar_28 : decode cJ16_getChar 28 = .ok (.iload_n 1, 1) := dk_27 (dk_at dksJ16_getChar_1 4 rfl rfl)
theorem dJ16_getChar_29 : decode cJ16_getChar 29 = .ok (.iconst 1, 1) := dk_4 (dk_at dksJ16_getChar_1 5 rfl rfl)
theorem dJ16_getChar_30 : decode cJ16_getChar 30 = .ok (.ishl, 1) := dk_120 (dk_at dksJ16_getChar_1 6 rfl rfl)
theorem dJ16_getChar_31 : decode cJ16_getChar 31 = .ok (.istore_n 1, 1) := dk_60 (dk_at dksJ16_getChar_1 7 rfl rfl)
theorem dJ16_getChar_32 : decode cJ16_getChar 32 = .ok (.aload_n 0, 1) := dk_42 (dk_at dksJ16_getChar_1 8 rfl rfl)
theorem dJ16_getChar_33 : decode cJ16_getChar 33 = .ok (.iload_n 1, 1) := dk_27 (dk_at dksJ16_getChar_1 9 rfl rfl)
theorem dJ16_getChar_34 : decode cJ16_getChar 34 = .ok (.iinc 1 1, 3) := dk_132 1 1 (dk_at dksJ16_getChar_1 10 rfl rfl)
theorem dJ16_getChar_37 : decode cJ16_getChar 37 = .ok (.baload, 1) := dk_51 (dk_at dksJ16_getChar_1 13 rfl rfl)
theorem dJ16_getChar_38 : decode cJ16_getChar 38 = .ok (.sipush 255, 3) := dk_17 0 255 (dk_at dksJ16_getChar_1 14 rfl rfl)
theorem dJ16_getChar_41 : decode cJ16_getChar 41 = .ok (.iand, 1) := dk_126 (dk_at dksJ16_getChar_1 17 rfl rfl)
theorem dJ16_getChar_42 : decode cJ16_getChar 42 = .ok (.getstatic 59, 3) := dk_178 0 59 (dk_at dksJ16_getChar_1 18 rfl rfl)
theorem dJ16_getChar_45 : decode cJ16_getChar 45 = .ok (.ishl, 1) := dk_120 (dk_at dksJ16_getChar_1 21 rfl rfl)
theorem dJ16_getChar_46 : decode cJ16_getChar 46 = .ok (.aload_n 0, 1) := dk_42 (dk_at dksJ16_getChar_1 22 rfl rfl)
theorem dJ16_getChar_47 : decode cJ16_getChar 47 = .ok (.iload_n 1, 1) := dk_27 (dk_at dksJ16_getChar_1 23 rfl rfl)
theorem dJ16_getChar_48 : decode cJ16_getChar 48 = .ok (.baload, 1) := dk_51 (dk_at dksJ16_getChar_2 0 rfl rfl)
theorem dJ16_getChar_49 : decode cJ16_getChar 49 = .ok (.sipush 255, 3) := dk_17 0 255 (dk_at dksJ16_getChar_2 1 rfl rfl)
theorem dJ16_getChar_52 : decode cJ16_getChar 52 = .ok (.iand, 1) := dk_126 (dk_at dksJ16_getChar_2 4 rfl rfl)
theorem dJ16_getChar_53 : decode cJ16_getChar 53 = .ok (.getstatic 63, 3) := dk_178 0 63 (dk_at dksJ16_getChar_2 5 rfl rfl)
theorem dJ16_getChar_56 : decode cJ16_getChar 56 = .ok (.ishl, 1) := dk_120 (dk_at dksJ16_getChar_2 8 rfl rfl)
theorem dJ16_getChar_57 : decode cJ16_getChar 57 = .ok (.ior, 1) := dk_128 (dk_at dksJ16_getChar_2 9 rfl rfl)
theorem dJ16_getChar_58 : decode cJ16_getChar 58 = .ok (.i2c, 1) := dk_146 (dk_at dksJ16_getChar_2 10 rfl rfl)
theorem dJ16_getChar_59 : decode cJ16_getChar 59 = .ok (.ireturn, 1) := dk_172 (dk_at dksJ16_getChar_2 11 rfl rfl)
abbrev iJ16_getChar : xM := (yJ16_getChar, cJ16_getChar, 2, (some .char), [])
theorem mJ16_getChar : xOkM iJ16_getChar := ⟨by decide +kernel, by decide, q630, q149⟩
abbrev cJ16_coderFromArrayLen : ByteArray := prog_43_method_15_code
def yJ16_coderFromArrayLen : MethodName := ⟨RJ16, "coderFromArrayLen", "([BI)B"⟩
def dkwJ16_coderFromArrayLen_0 : List UInt8 := [27, 42, 190, 100, 16, 31, 124, 145, 172]
abbrev dktJ16_coderFromArrayLen_0 : List UInt8 := dkwJ16_coderFromArrayLen_0 ++ []
theorem dksJ16_coderFromArrayLen_0 : cJ16_coderFromArrayLen.data.toList.drop 0 = dktJ16_coderFromArrayLen_0 := by decide +kernel
theorem dJ16_coderFromArrayLen_0 : decode cJ16_coderFromArrayLen 0 = .ok (.iload_n 1, 1) := dk_27 (dk_at dksJ16_coderFromArrayLen_0 0 rfl rfl)
theorem dJ16_coderFromArrayLen_1 : decode cJ16_coderFromArrayLen 1 = .ok (.aload_n 0, 1) := dk_42 (dk_at dksJ16_coderFromArrayLen_0 1 rfl rfl)
theorem dJ16_coderFromArrayLen_2 : decode cJ16_coderFromArrayLen 2 = .ok (.arraylength, 1) := dk_190 (dk_at dksJ16_coderFromArrayLen_0 2 rfl rfl)
theorem dJ16_coderFromArrayLen_3 : decode cJ16_coderFromArrayLen 3 = .ok (.isub, 1) := dk_100 (dk_at dksJ16_coderFromArrayLen_0 3 rfl rfl)
theorem dJ16_coderFromArrayLen_4 : decode cJ16_coderFromArrayLen 4 = .ok (.bipush 31, 2) := dk_16 31 (dk_at dksJ16_coderFromArrayLen_0 4 rfl rfl)
theorem dJ16_coderFromArrayLen_6 : decode cJ16_coderFromArrayLen 6 = .ok (.iushr, 1) := dk_124 (dk_at dksJ16_coderFromArrayLen_0 6 rfl rfl)
theorem dJ16_coderFromArrayLen_7 : decode cJ16_coderFromArrayLen 7 = .ok (.i2b, 1) := dk_145 (dk_at dksJ16_coderFromArrayLen_0 7 rfl rfl)
theorem dJ16_coderFromArrayLen_8 : decode cJ16_coderFromArrayLen 8 = .ok (.ireturn, 1) := dk_172 (dk_at dksJ16_coderFromArrayLen_0 8 rfl rfl)
abbrev iJ16_coderFromArrayLen : xM := (yJ16_coderFromArrayLen, cJ16_coderFromArrayLen, 2, (some .byte), [])
theorem mJ16_coderFromArrayLen : xOkM iJ16_coderFromArrayLen := ⟨by decide +kernel, by decide, q634, q149⟩
abbrev cJ16_putCharsSB : ByteArray := prog_43_method_72_code
def yJ16_putCharsSB : MethodName := ⟨RJ16, "putCharsSB", "([BI[CII)V"⟩
def dkwJ16_putCharsSB_0 : List UInt8 := [27, 27, 21, 4, 96, 29, 100, 42, 184, 0, 96, 42, 27, 44, 29, 21, 4, 184, 1, 128, 177]
abbrev dktJ16_putCharsSB_0 : List UInt8 := dkwJ16_putCharsSB_0 ++ []
theorem dksJ16_putCharsSB_0 : cJ16_putCharsSB.data.toList.drop 0 = dktJ16_putCharsSB_0 := by decide +kernel
theorem dJ16_putCharsSB_0 : decode cJ16_putCharsSB 0 = .ok (.iload_n 1, 1) := dk_27 (dk_at dksJ16_putCharsSB_0 0 rfl rfl)
theorem dJ16_putCharsSB_1 : decode cJ16_putCharsSB 1 = .ok (.iload_n 1, 1) := dk_27 (dk_at dksJ16_putCharsSB_0 1 rfl rfl)
theorem dJ16_putCharsSB_2 : decode cJ16_putCharsSB 2 = .ok (.iload 4, 2) := dk_21 4 (dk_at dksJ16_putCharsSB_0 2 rfl rfl)
theorem dJ16_putCharsSB_4 : decode cJ16_putCharsSB 4 = .ok (.iadd, 1) := dk_96 (dk_at dksJ16_putCharsSB_0 4 rfl rfl)
theorem dJ16_putCharsSB_5 : decode cJ16_putCharsSB 5 = .ok (.iload_n 3, 1) := dk_29 (dk_at dksJ16_putCharsSB_0 5 rfl rfl)
theorem dJ16_putCharsSB_6 : decode cJ16_putCharsSB 6 = .ok (.isub, 1) := dk_100 (dk_at dksJ16_putCharsSB_0 6 rfl rfl)
theorem dJ16_putCharsSB_7 : decode cJ16_putCharsSB 7 = .ok (.aload_n 0, 1) := dk_42 (dk_at dksJ16_putCharsSB_0 7 rfl rfl)
theorem dJ16_putCharsSB_8 : decode cJ16_putCharsSB 8 = .ok (.invokestatic 96, 3) := dk_184 0 96 (dk_at dksJ16_putCharsSB_0 8 rfl rfl)
theorem dJ16_putCharsSB_11 : decode cJ16_putCharsSB 11 = .ok (.aload_n 0, 1) := dk_42 (dk_at dksJ16_putCharsSB_0 11 rfl rfl)
theorem dJ16_putCharsSB_12 : decode cJ16_putCharsSB 12 = .ok (.iload_n 1, 1) := dk_27 (dk_at dksJ16_putCharsSB_0 12 rfl rfl)
theorem dJ16_putCharsSB_13 : decode cJ16_putCharsSB 13 = .ok (.aload_n 2, 1) := dk_44 (dk_at dksJ16_putCharsSB_0 13 rfl rfl)
theorem dJ16_putCharsSB_14 : decode cJ16_putCharsSB 14 = .ok (.iload_n 3, 1) := dk_29 (dk_at dksJ16_putCharsSB_0 14 rfl rfl)
theorem dJ16_putCharsSB_15 : decode cJ16_putCharsSB 15 = .ok (.iload 4, 2) := dk_21 4 (dk_at dksJ16_putCharsSB_0 15 rfl rfl)
theorem dJ16_putCharsSB_17 : decode cJ16_putCharsSB 17 = .ok (.invokestatic 384, 3) := dk_184 1 128 (dk_at dksJ16_putCharsSB_0 17 rfl rfl)
theorem dJ16_putCharsSB_20 : decode cJ16_putCharsSB 20 = .ok (.return_, 1) := dk_177 (dk_at dksJ16_putCharsSB_0 20 rfl rfl)
abbrev iJ16_putCharsSB : xM := (yJ16_putCharsSB, cJ16_putCharsSB, 5, none, [])
theorem mJ16_putCharsSB : xOkM iJ16_putCharsSB := ⟨by decide +kernel, by decide, q791, q149⟩
abbrev cJ16_putChars : ByteArray := prog_43_method_68_code
def yJ16_putChars : MethodName := ⟨RJ16, "putChars", "([BI[CII)V"⟩
def dkwJ16_putChars_0 : List UInt8 := [29, 21, 4, 162, 0, 20, 42, 27, 132, 1, 1, 44, 29, 132, 3, 1, 52, 184, 0, 111, 167, 255, 236, 177]
abbrev dktJ16_putChars_0 : List UInt8 := dkwJ16_putChars_0 ++ []
theorem dksJ16_putChars_0 : cJ16_putChars.data.toList.drop 0 = dktJ16_putChars_0 := by decide +kernel
theorem dJ16_putChars_0 : decode cJ16_putChars 0 = .ok (.iload_n 3, 1) := dk_29 (dk_at dksJ16_putChars_0 0 rfl rfl)
theorem dJ16_putChars_1 : decode cJ16_putChars 1 = .ok (.iload 4, 2) := dk_21 4 (dk_at dksJ16_putChars_0 1 rfl rfl)
theorem dJ16_putChars_3 : decode cJ16_putChars 3 = .ok (.if_icmp .ge 20, 3) := dk_162 0 20 (dk_at dksJ16_putChars_0 3 rfl rfl)
theorem dJ16_putChars_6 : decode cJ16_putChars 6 = .ok (.aload_n 0, 1) := dk_42 (dk_at dksJ16_putChars_0 6 rfl rfl)
theorem dJ16_putChars_7 : decode cJ16_putChars 7 = .ok (.iload_n 1, 1) := dk_27 (dk_at dksJ16_putChars_0 7 rfl rfl)
theorem dJ16_putChars_8 : decode cJ16_putChars 8 = .ok (.iinc 1 1, 3) := dk_132 1 1 (dk_at dksJ16_putChars_0 8 rfl rfl)
theorem dJ16_putChars_11 : decode cJ16_putChars 11 = .ok (.aload_n 2, 1) := dk_44 (dk_at dksJ16_putChars_0 11 rfl rfl)
theorem dJ16_putChars_12 : decode cJ16_putChars 12 = .ok (.iload_n 3, 1) := dk_29 (dk_at dksJ16_putChars_0 12 rfl rfl)
theorem dJ16_putChars_13 : decode cJ16_putChars 13 = .ok (.iinc 3 1, 3) := dk_132 3 1 (dk_at dksJ16_putChars_0 13 rfl rfl)
theorem dJ16_putChars_16 : decode cJ16_putChars 16 = .ok (.caload, 1) := dk_52 (dk_at dksJ16_putChars_0 16 rfl rfl)
theorem dJ16_putChars_17 : decode cJ16_putChars 17 = .ok (.invokestatic 111, 3) := dk_184 0 111 (dk_at dksJ16_putChars_0 17 rfl rfl)
theorem dJ16_putChars_20 : decode cJ16_putChars 20 = .ok (.goto (-20), 3) := dk_167 255 236 (dk_at dksJ16_putChars_0 20 rfl rfl)
theorem dJ16_putChars_23 : decode cJ16_putChars 23 = .ok (.return_, 1) := dk_177 (dk_at dksJ16_putChars_0 23 rfl rfl)
abbrev iJ16_putChars : xM := (yJ16_putChars, cJ16_putChars, 5, none, [])
theorem mJ16_putChars : xOkM iJ16_putChars := ⟨by decide +kernel, by decide, q794, q149⟩
abbrev cJ16_putCharSB : ByteArray := prog_43_method_71_code
def yJ16_putCharSB : MethodName := ⟨RJ16, "putCharSB", "([BII)V"⟩
def dkwJ16_putCharSB_0 : List UInt8 := [27, 42, 184, 0, 67, 42, 27, 28, 184, 0, 111, 177]
abbrev dktJ16_putCharSB_0 : List UInt8 := dkwJ16_putCharSB_0 ++ []
theorem dksJ16_putCharSB_0 : cJ16_putCharSB.data.toList.drop 0 = dktJ16_putCharSB_0 := by decide +kernel
theorem dJ16_putCharSB_0 : decode cJ16_putCharSB 0 = .ok (.iload_n 1, 1) := dk_27 (dk_at dksJ16_putCharSB_0 0 rfl rfl)
theorem dJ16_putCharSB_1 : decode cJ16_putCharSB 1 = .ok (.aload_n 0, 1) := dk_42 (dk_at dksJ16_putCharSB_0 1 rfl rfl)
theorem dJ16_putCharSB_2 : decode cJ16_putCharSB 2 = .ok (.invokestatic 67, 3) := dk_184 0 67 (dk_at dksJ16_putCharSB_0 2 rfl rfl)
theorem dJ16_putCharSB_5 : decode cJ16_putCharSB 5 = .ok (.aload_n 0, 1) := dk_42 (dk_at dksJ16_putCharSB_0 5 rfl rfl)
theorem dJ16_putCharSB_6 : decode cJ16_putCharSB 6 = .ok (.iload_n 1, 1) := dk_27 (dk_at dksJ16_putCharSB_0 6 rfl rfl)
theorem dJ16_putCharSB_7 : decode cJ16_putCharSB 7 = .ok (.iload_n 2, 1) := dk_28 (dk_at dksJ16_putCharSB_0 7 rfl rfl)
theorem dJ16_putCharSB_8 : decode cJ16_putCharSB 8 = .ok (.invokestatic 111, 3) := dk_184 0 111 (dk_at dksJ16_putCharSB_0 8 rfl rfl)
theorem dJ16_putCharSB_11 : decode cJ16_putCharSB 11 = .ok (.return_, 1) := dk_177 (dk_at dksJ16_putCharSB_0 11 rfl rfl)
abbrev iJ16_putCharSB : xM := (yJ16_putCharSB, cJ16_putCharSB, 3, none, [])
theorem mJ16_putCharSB : xOkM iJ16_putCharSB := ⟨by decide +kernel, by decide, q821, q149⟩
abbrev cJ16_checkIndex : ByteArray := prog_43_method_91_code
def yJ16_checkIndex : MethodName := ⟨RJ16, "checkIndex", "(I[B)V"⟩
def dkwJ16_checkIndex_0 : List UInt8 := [26, 43, 184, 0, 48, 184, 1, 158, 177]
abbrev dktJ16_checkIndex_0 : List UInt8 := dkwJ16_checkIndex_0 ++ []
theorem dksJ16_checkIndex_0 : cJ16_checkIndex.data.toList.drop 0 = dktJ16_checkIndex_0 := by decide +kernel
theorem dJ16_checkIndex_0 : decode cJ16_checkIndex 0 = .ok (.iload_n 0, 1) := dk_26 (dk_at dksJ16_checkIndex_0 0 rfl rfl)
theorem dJ16_checkIndex_1 : decode cJ16_checkIndex 1 = .ok (.aload_n 1, 1) := dk_43 (dk_at dksJ16_checkIndex_0 1 rfl rfl)
theorem dJ16_checkIndex_2 : decode cJ16_checkIndex 2 = .ok (.invokestatic 48, 3) := dk_184 0 48 (dk_at dksJ16_checkIndex_0 2 rfl rfl)
theorem dJ16_checkIndex_5 : decode cJ16_checkIndex 5 = .ok (.invokestatic 414, 3) := dk_184 1 158 (dk_at dksJ16_checkIndex_0 5 rfl rfl)
theorem dJ16_checkIndex_8 : decode cJ16_checkIndex 8 = .ok (.return_, 1) := dk_177 (dk_at dksJ16_checkIndex_0 8 rfl rfl)
abbrev iJ16_checkIndex : xM := (yJ16_checkIndex, cJ16_checkIndex, 2, none, [])
theorem mJ16_checkIndex : xOkM iJ16_checkIndex := ⟨by decide +kernel, by decide, q824, q149⟩
abbrev cJ16_charAt : ByteArray := prog_43_method_83_code
def yJ16_charAt : MethodName := ⟨RJ16, "charAt", "([BI)C"⟩
def dkwJ16_charAt_0 : List UInt8 := [27, 42, 184, 0, 67, 42, 27, 184, 0, 71, 172]
abbrev dktJ16_charAt_0 : List UInt8 := dkwJ16_charAt_0 ++ []
theorem dksJ16_charAt_0 : cJ16_charAt.data.toList.drop 0 = dktJ16_charAt_0 := by decide +kernel
theorem dJ16_charAt_0 : decode cJ16_charAt 0 = .ok (.iload_n 1, 1) := dk_27 (dk_at dksJ16_charAt_0 0 rfl rfl)
theorem dJ16_charAt_1 : decode cJ16_charAt 1 = .ok (.aload_n 0, 1) := dk_42 (dk_at dksJ16_charAt_0 1 rfl rfl)
theorem dJ16_charAt_2 : decode cJ16_charAt 2 = .ok (.invokestatic 67, 3) := dk_184 0 67 (dk_at dksJ16_charAt_0 2 rfl rfl)
theorem dJ16_charAt_5 : decode cJ16_charAt 5 = .ok (.aload_n 0, 1) := dk_42 (dk_at dksJ16_charAt_0 5 rfl rfl)
theorem dJ16_charAt_6 : decode cJ16_charAt 6 = .ok (.iload_n 1, 1) := dk_27 (dk_at dksJ16_charAt_0 6 rfl rfl)
theorem dJ16_charAt_7 : decode cJ16_charAt 7 = .ok (.invokestatic 71, 3) := dk_184 0 71 (dk_at dksJ16_charAt_0 7 rfl rfl)
theorem dJ16_charAt_10 : decode cJ16_charAt 10 = .ok (.ireturn, 1) := dk_172 (dk_at dksJ16_charAt_0 10 rfl rfl)
abbrev iJ16_charAt : xM := (yJ16_charAt, cJ16_charAt, 2, (some .char), [])
theorem mJ16_charAt : xOkM iJ16_charAt := ⟨by decide +kernel, by decide, q926, q149⟩
abbrev cJ16_putCharsSB_2 : ByteArray := prog_43_method_73_code
def yJ16_putCharsSB_2 : MethodName := ⟨RJ16, "putCharsSB", "([BILjava/lang/CharSequence;II)V"⟩
def dkwJ16_putCharsSB_2_1 : List UInt8 := [132, 1, 1, 44, 21, 5, 185, 1, 132, 2, 0, 184, 0, 111, 132, 5, 1, 167, 255, 230, 177]
abbrev dktJ16_putCharsSB_2_1 : List UInt8 := dkwJ16_putCharsSB_2_1 ++ []
def dkwJ16_putCharsSB_2_0 : List UInt8 := [27, 27, 21, 4, 96, 29, 100, 42, 184, 0, 96, 29, 54, 5, 21, 5, 21, 4, 162, 0, 25, 42, 27]
abbrev dktJ16_putCharsSB_2_0 : List UInt8 := dkwJ16_putCharsSB_2_0 ++ dktJ16_putCharsSB_2_1
theorem dksJ16_putCharsSB_2_0 : cJ16_putCharsSB_2.data.toList.drop 0 = dktJ16_putCharsSB_2_0 := by decide +kernel
theorem dksJ16_putCharsSB_2_1 : cJ16_putCharsSB_2.data.toList.drop 23 = dktJ16_putCharsSB_2_1 := dk_seg dksJ16_putCharsSB_2_0 23 rfl rfl
theorem dJ16_putCharsSB_2_0 : decode cJ16_putCharsSB_2 0 = .ok (.iload_n 1, 1) := dk_27 (dk_at dksJ16_putCharsSB_2_0 0 rfl rfl)
theorem dJ16_putCharsSB_2_1 : decode cJ16_putCharsSB_2 1 = .ok (.iload_n 1, 1) := dk_27 (dk_at dksJ16_putCharsSB_2_0 1 rfl rfl)
theorem dJ16_putCharsSB_2_2 : decode cJ16_putCharsSB_2 2 = .ok (.iload 4, 2) := dk_21 4 (dk_at dksJ16_putCharsSB_2_0 2 rfl rfl)
theorem dJ16_putCharsSB_2_4 : decode cJ16_putCharsSB_2 4 = .ok (.iadd, 1) := dk_96 (dk_at dksJ16_putCharsSB_2_0 4 rfl rfl)
theorem dJ16_putCharsSB_2_5 : decode cJ16_putCharsSB_2 5 = .ok (.iload_n 3, 1) := dk_29 (dk_at dksJ16_putCharsSB_2_0 5 rfl rfl)
theorem dJ16_putCharsSB_2_6 : decode cJ16_putCharsSB_2 6 = .ok (.isub, 1) := dk_100 (dk_at dksJ16_putCharsSB_2_0 6 rfl rfl)
theorem dJ16_putCharsSB_2_7 : decode cJ16_putCharsSB_2 7 = .ok (.aload_n 0, 1) := dk_42 (dk_at dksJ16_putCharsSB_2_0 7 rfl rfl)
theorem dJ16_putCharsSB_2_8 : decode cJ16_putCharsSB_2 8 = .ok (.invokestatic 96, 3) := dk_184 0 96 (dk_at dksJ16_putCharsSB_2_0 8 rfl rfl)
theorem dJ16_putCharsSB_2_11 : decode cJ16_putCharsSB_2 11 = .ok (.iload_n 3, 1) := dk_29 (dk_at dksJ16_putCharsSB_2_0 11 rfl rfl)
theorem dJ16_putCharsSB_2_12 : decode cJ16_putCharsSB_2 12 = .ok (.istore 5, 2) := dk_54 5 (dk_at dksJ16_putCharsSB_2_0 12 rfl rfl)
theorem dJ16_putCharsSB_2_14 : decode cJ16_putCharsSB_2 14 = .ok (.iload 5, 2) := dk_21 5 (dk_at dksJ16_putCharsSB_2_0 14 rfl rfl)
theorem dJ16_putCharsSB_2_16 : decode cJ16_putCharsSB_2 16 = .ok (.iload 4, 2) := dk_21 4 (dk_at dksJ16_putCharsSB_2_0 16 rfl rfl)
theorem dJ16_putCharsSB_2_18 : decode cJ16_putCharsSB_2 18 = .ok (.if_icmp .ge 25, 3) := dk_162 0 25 (dk_at dksJ16_putCharsSB_2_0 18 rfl rfl)
theorem dJ16_putCharsSB_2_21 : decode cJ16_putCharsSB_2 21 = .ok (.aload_n 0, 1) := dk_42 (dk_at dksJ16_putCharsSB_2_0 21 rfl rfl)
theorem dJ16_putCharsSB_2_22 : decode cJ16_putCharsSB_2 22 = .ok (.iload_n 1, 1) := dk_27 (dk_at dksJ16_putCharsSB_2_0 22 rfl rfl)
theorem dJ16_putCharsSB_2_23 : decode cJ16_putCharsSB_2 23 = .ok (.iinc 1 1, 3) := dk_132 1 1 (dk_at dksJ16_putCharsSB_2_1 0 rfl rfl)
theorem dJ16_putCharsSB_2_26 : decode cJ16_putCharsSB_2 26 = .ok (.aload_n 2, 1) := dk_44 (dk_at dksJ16_putCharsSB_2_1 3 rfl rfl)
theorem dJ16_putCharsSB_2_27 : decode cJ16_putCharsSB_2 27 = .ok (.iload 5, 2) := dk_21 5 (dk_at dksJ16_putCharsSB_2_1 4 rfl rfl)
theorem dJ16_putCharsSB_2_29 : decode cJ16_putCharsSB_2 29 = .ok (.invokeinterface 388 2, 5) := by decide +kernel
theorem dJ16_putCharsSB_2_34 : decode cJ16_putCharsSB_2 34 = .ok (.invokestatic 111, 3) := dk_184 0 111 (dk_at dksJ16_putCharsSB_2_1 11 rfl rfl)
theorem dJ16_putCharsSB_2_37 : decode cJ16_putCharsSB_2 37 = .ok (.iinc 5 1, 3) := dk_132 5 1 (dk_at dksJ16_putCharsSB_2_1 14 rfl rfl)
theorem dJ16_putCharsSB_2_40 : decode cJ16_putCharsSB_2 40 = .ok (.goto (-26), 3) := dk_167 255 230 (dk_at dksJ16_putCharsSB_2_1 17 rfl rfl)
theorem dJ16_putCharsSB_2_43 : decode cJ16_putCharsSB_2 43 = .ok (.return_, 1) := dk_177 (dk_at dksJ16_putCharsSB_2_1 20 rfl rfl)
abbrev iJ16_putCharsSB_2 : xM := (yJ16_putCharsSB_2, cJ16_putCharsSB_2, 6, none, [])
theorem mJ16_putCharsSB_2 : xOkM iJ16_putCharsSB_2 := ⟨by decide +kernel, by decide, q929, q149⟩
abbrev cJ16_hashCode : ByteArray := prog_43_method_39_code
def yJ16_hashCode : MethodName := ⟨RJ16, "hashCode", "([B)I"⟩
def dkwJ16_hashCode_2 : List UInt8 := [3, 167, 0, 22, 42, 3, 184, 0, 71, 167, 0, 14, 42, 3, 42, 190, 4, 122, 3, 8, 184, 0, 220, 172]
abbrev dktJ16_hashCode_2 : List UInt8 := dkwJ16_hashCode_2 ++ []
def dkwJ16_hashCode_1 : List UInt8 := [171, 0, 0, 0, 0, 38, 0, 0, 0, 2, 0, 0, 0, 0, 0, 0, 0, 26, 0, 0, 0, 2, 0, 0, 0, 30]
abbrev dktJ16_hashCode_1 : List UInt8 := dkwJ16_hashCode_1 ++ dktJ16_hashCode_2
def dkwJ16_hashCode_0 : List UInt8 := [42, 190]
abbrev dktJ16_hashCode_0 : List UInt8 := dkwJ16_hashCode_0 ++ dktJ16_hashCode_1
theorem dksJ16_hashCode_0 : cJ16_hashCode.data.toList.drop 0 = dktJ16_hashCode_0 := by decide +kernel
theorem dksJ16_hashCode_1 : cJ16_hashCode.data.toList.drop 2 = dktJ16_hashCode_1 := dk_seg dksJ16_hashCode_0 2 rfl rfl
theorem dksJ16_hashCode_2 : cJ16_hashCode.data.toList.drop 28 = dktJ16_hashCode_2 := dk_seg dksJ16_hashCode_1 26 rfl rfl
theorem dJ16_hashCode_0 : decode cJ16_hashCode 0 = .ok (.aload_n 0, 1) := dk_42 (dk_at dksJ16_hashCode_0 0 rfl rfl)
theorem dJ16_hashCode_1 : decode cJ16_hashCode 1 = .ok (.arraylength, 1) := dk_190 (dk_at dksJ16_hashCode_0 1 rfl rfl)
theorem dJ16_hashCode_2 : decode cJ16_hashCode 2 = .ok (.lookupswitch 38 #[(0, 26), (2, 30)], 26) := by decide +kernel
theorem dJ16_hashCode_28 : decode cJ16_hashCode 28 = .ok (.iconst 0, 1) := dk_3 (dk_at dksJ16_hashCode_2 0 rfl rfl)
theorem dJ16_hashCode_29 : decode cJ16_hashCode 29 = .ok (.goto 22, 3) := dk_167 0 22 (dk_at dksJ16_hashCode_2 1 rfl rfl)
theorem dJ16_hashCode_32 : decode cJ16_hashCode 32 = .ok (.aload_n 0, 1) := dk_42 (dk_at dksJ16_hashCode_2 4 rfl rfl)
theorem dJ16_hashCode_33 : decode cJ16_hashCode 33 = .ok (.iconst 0, 1) := dk_3 (dk_at dksJ16_hashCode_2 5 rfl rfl)
theorem dJ16_hashCode_34 : decode cJ16_hashCode 34 = .ok (.invokestatic 71, 3) := dk_184 0 71 (dk_at dksJ16_hashCode_2 6 rfl rfl)
theorem dJ16_hashCode_37 : decode cJ16_hashCode 37 = .ok (.goto 14, 3) := dk_167 0 14 (dk_at dksJ16_hashCode_2 9 rfl rfl)
theorem dJ16_hashCode_40 : decode cJ16_hashCode 40 = .ok (.aload_n 0, 1) := dk_42 (dk_at dksJ16_hashCode_2 12 rfl rfl)
theorem dJ16_hashCode_41 : decode cJ16_hashCode 41 = .ok (.iconst 0, 1) := dk_3 (dk_at dksJ16_hashCode_2 13 rfl rfl)
theorem dJ16_hashCode_42 : decode cJ16_hashCode 42 = .ok (.aload_n 0, 1) := dk_42 (dk_at dksJ16_hashCode_2 14 rfl rfl)
theorem dJ16_hashCode_43 : decode cJ16_hashCode 43 = .ok (.arraylength, 1) := dk_190 (dk_at dksJ16_hashCode_2 15 rfl rfl)
theorem dJ16_hashCode_44 : decode cJ16_hashCode 44 = .ok (.iconst 1, 1) := dk_4 (dk_at dksJ16_hashCode_2 16 rfl rfl)
theorem dJ16_hashCode_45 : decode cJ16_hashCode 45 = .ok (.ishr, 1) := dk_122 (dk_at dksJ16_hashCode_2 17 rfl rfl)
theorem dJ16_hashCode_46 : decode cJ16_hashCode 46 = .ok (.iconst 0, 1) := dk_3 (dk_at dksJ16_hashCode_2 18 rfl rfl)
theorem dJ16_hashCode_47 : decode cJ16_hashCode 47 = .ok (.iconst 5, 1) := dk_8 (dk_at dksJ16_hashCode_2 19 rfl rfl)
theorem dJ16_hashCode_48 : decode cJ16_hashCode 48 = .ok (.invokestatic 220, 3) := dk_184 0 220 (dk_at dksJ16_hashCode_2 20 rfl rfl)
theorem dJ16_hashCode_51 : decode cJ16_hashCode 51 = .ok (.ireturn, 1) := dk_172 (dk_at dksJ16_hashCode_2 23 rfl rfl)
abbrev iJ16_hashCode : xM := (yJ16_hashCode, cJ16_hashCode, 1, (some .int), [])
theorem mJ16_hashCode : xOkM iJ16_hashCode := ⟨by decide +kernel, by decide, q1449, q149⟩
abbrev cJ16_compareTo : ByteArray := prog_43_method_29_code
def yJ16_compareTo : MethodName := ⟨RJ16, "compareTo", "([B[B)I"⟩
def dkwJ16_compareTo_0 : List UInt8 := [42, 184, 0, 48, 61, 43, 184, 0, 48, 62, 42, 43, 28, 29, 184, 0, 176, 172]
abbrev dktJ16_compareTo_0 : List UInt8 := dkwJ16_compareTo_0 ++ []
theorem dksJ16_compareTo_0 : cJ16_compareTo.data.toList.drop 0 = dktJ16_compareTo_0 := by decide +kernel
theorem dJ16_compareTo_0 : decode cJ16_compareTo 0 = .ok (.aload_n 0, 1) := dk_42 (dk_at dksJ16_compareTo_0 0 rfl rfl)
theorem dJ16_compareTo_1 : decode cJ16_compareTo 1 = .ok (.invokestatic 48, 3) := dk_184 0 48 (dk_at dksJ16_compareTo_0 1 rfl rfl)
theorem dJ16_compareTo_4 : decode cJ16_compareTo 4 = .ok (.istore_n 2, 1) := dk_61 (dk_at dksJ16_compareTo_0 4 rfl rfl)
theorem dJ16_compareTo_5 : decode cJ16_compareTo 5 = .ok (.aload_n 1, 1) := dk_43 (dk_at dksJ16_compareTo_0 5 rfl rfl)
theorem dJ16_compareTo_6 : decode cJ16_compareTo 6 = .ok (.invokestatic 48, 3) := dk_184 0 48 (dk_at dksJ16_compareTo_0 6 rfl rfl)
theorem dJ16_compareTo_9 : decode cJ16_compareTo 9 = .ok (.istore_n 3, 1) := dk_62 (dk_at dksJ16_compareTo_0 9 rfl rfl)
theorem dJ16_compareTo_10 : decode cJ16_compareTo 10 = .ok (.aload_n 0, 1) := dk_42 (dk_at dksJ16_compareTo_0 10 rfl rfl)
theorem dJ16_compareTo_11 : decode cJ16_compareTo 11 = .ok (.aload_n 1, 1) := dk_43 (dk_at dksJ16_compareTo_0 11 rfl rfl)
theorem dJ16_compareTo_12 : decode cJ16_compareTo 12 = .ok (.iload_n 2, 1) := dk_28 (dk_at dksJ16_compareTo_0 12 rfl rfl)
theorem dJ16_compareTo_13 : decode cJ16_compareTo 13 = .ok (.iload_n 3, 1) := dk_29 (dk_at dksJ16_compareTo_0 13 rfl rfl)
theorem dJ16_compareTo_14 : decode cJ16_compareTo 14 = .ok (.invokestatic 176, 3) := dk_184 0 176 (dk_at dksJ16_compareTo_0 14 rfl rfl)
theorem dJ16_compareTo_17 : decode cJ16_compareTo 17 = .ok (.ireturn, 1) := dk_172 (dk_at dksJ16_compareTo_0 17 rfl rfl)
abbrev iJ16_compareTo : xM := (yJ16_compareTo, cJ16_compareTo, 4, (some .int), [])
theorem mJ16_compareTo : xOkM iJ16_compareTo := ⟨by decide +kernel, by decide, q1717, q149⟩
abbrev cJ16_compareValues : ByteArray := prog_43_method_31_code
def yJ16_compareValues : MethodName := ⟨RJ16, "compareValues", "([B[BII)I"⟩
def dkwJ16_compareValues_2 : List UInt8 := [132, 5, 1, 167, 255, 217, 28, 29, 100, 172]
abbrev dktJ16_compareValues_2 : List UInt8 := dkwJ16_compareValues_2 ++ []
def dkwJ16_compareValues_1 : List UInt8 := [54, 6, 43, 21, 5, 184, 0, 71, 54, 7, 21, 6, 21, 7, 159, 0, 9, 21, 6, 21, 7, 100, 172]
abbrev dktJ16_compareValues_1 : List UInt8 := dkwJ16_compareValues_1 ++ dktJ16_compareValues_2
def dkwJ16_compareValues_0 : List UInt8 := [28, 29, 184, 0, 183, 54, 4, 3, 54, 5, 21, 5, 21, 4, 162, 0, 38, 42, 21, 5, 184, 0, 71]
abbrev dktJ16_compareValues_0 : List UInt8 := dkwJ16_compareValues_0 ++ dktJ16_compareValues_1
theorem dksJ16_compareValues_0 : cJ16_compareValues.data.toList.drop 0 = dktJ16_compareValues_0 := by decide +kernel
theorem dksJ16_compareValues_1 : cJ16_compareValues.data.toList.drop 23 = dktJ16_compareValues_1 := dk_seg dksJ16_compareValues_0 23 rfl rfl
theorem dksJ16_compareValues_2 : cJ16_compareValues.data.toList.drop 46 = dktJ16_compareValues_2 := dk_seg dksJ16_compareValues_1 23 rfl rfl
theorem dJ16_compareValues_0 : decode cJ16_compareValues 0 = .ok (.iload_n 2, 1) := dk_28 (dk_at dksJ16_compareValues_0 0 rfl rfl)
theorem dJ16_compareValues_1 : decode cJ16_compareValues 1 = .ok (.iload_n 3, 1) := dk_29 (dk_at dksJ16_compareValues_0 1 rfl rfl)
theorem dJ16_compareValues_2 : decode cJ16_compareValues 2 = .ok (.invokestatic 183, 3) := dk_184 0 183 (dk_at dksJ16_compareValues_0 2 rfl rfl)
theorem dJ16_compareValues_5 : decode cJ16_compareValues 5 = .ok (.istore 4, 2) := dk_54 4 (dk_at dksJ16_compareValues_0 5 rfl rfl)
theorem dJ16_compareValues_7 : decode cJ16_compareValues 7 = .ok (.iconst 0, 1) := dk_3 (dk_at dksJ16_compareValues_0 7 rfl rfl)
theorem dJ16_compareValues_8 : decode cJ16_compareValues 8 = .ok (.istore 5, 2) := dk_54 5 (dk_at dksJ16_compareValues_0 8 rfl rfl)
theorem dJ16_compareValues_10 : decode cJ16_compareValues 10 = .ok (.iload 5, 2) := dk_21 5 (dk_at dksJ16_compareValues_0 10 rfl rfl)
theorem dJ16_compareValues_12 : decode cJ16_compareValues 12 = .ok (.iload 4, 2) := dk_21 4 (dk_at dksJ16_compareValues_0 12 rfl rfl)
theorem dJ16_compareValues_14 : decode cJ16_compareValues 14 = .ok (.if_icmp .ge 38, 3) := dk_162 0 38 (dk_at dksJ16_compareValues_0 14 rfl rfl)
theorem dJ16_compareValues_17 : decode cJ16_compareValues 17 = .ok (.aload_n 0, 1) := dk_42 (dk_at dksJ16_compareValues_0 17 rfl rfl)
theorem dJ16_compareValues_18 : decode cJ16_compareValues 18 = .ok (.iload 5, 2) := dk_21 5 (dk_at dksJ16_compareValues_0 18 rfl rfl)
theorem dJ16_compareValues_20 : decode cJ16_compareValues 20 = .ok (.invokestatic 71, 3) := dk_184 0 71 (dk_at dksJ16_compareValues_0 20 rfl rfl)
theorem dJ16_compareValues_23 : decode cJ16_compareValues 23 = .ok (.istore 6, 2) := dk_54 6 (dk_at dksJ16_compareValues_1 0 rfl rfl)
theorem dJ16_compareValues_25 : decode cJ16_compareValues 25 = .ok (.aload_n 1, 1) := dk_43 (dk_at dksJ16_compareValues_1 2 rfl rfl)
theorem dJ16_compareValues_26 : decode cJ16_compareValues 26 = .ok (.iload 5, 2) := dk_21 5 (dk_at dksJ16_compareValues_1 3 rfl rfl)
theorem dJ16_compareValues_28 : decode cJ16_compareValues 28 = .ok (.invokestatic 71, 3) := dk_184 0 71 (dk_at dksJ16_compareValues_1 5 rfl rfl)
theorem dJ16_compareValues_31 : decode cJ16_compareValues 31 = .ok (.istore 7, 2) := dk_54 7 (dk_at dksJ16_compareValues_1 8 rfl rfl)
theorem dJ16_compareValues_33 : decode cJ16_compareValues 33 = .ok (.iload 6, 2) := dk_21 6 (dk_at dksJ16_compareValues_1 10 rfl rfl)
theorem dJ16_compareValues_35 : decode cJ16_compareValues 35 = .ok (.iload 7, 2) := dk_21 7 (dk_at dksJ16_compareValues_1 12 rfl rfl)
theorem dJ16_compareValues_37 : decode cJ16_compareValues 37 = .ok (.if_icmp .eq 9, 3) := dk_159 0 9 (dk_at dksJ16_compareValues_1 14 rfl rfl)
theorem dJ16_compareValues_40 : decode cJ16_compareValues 40 = .ok (.iload 6, 2) := dk_21 6 (dk_at dksJ16_compareValues_1 17 rfl rfl)
theorem dJ16_compareValues_42 : decode cJ16_compareValues 42 = .ok (.iload 7, 2) := dk_21 7 (dk_at dksJ16_compareValues_1 19 rfl rfl)
theorem dJ16_compareValues_44 : decode cJ16_compareValues 44 = .ok (.isub, 1) := dk_100 (dk_at dksJ16_compareValues_1 21 rfl rfl)
theorem dJ16_compareValues_45 : decode cJ16_compareValues 45 = .ok (.ireturn, 1) := dk_172 (dk_at dksJ16_compareValues_1 22 rfl rfl)
theorem dJ16_compareValues_46 : decode cJ16_compareValues 46 = .ok (.iinc 5 1, 3) := dk_132 5 1 (dk_at dksJ16_compareValues_2 0 rfl rfl)
theorem dJ16_compareValues_49 : decode cJ16_compareValues 49 = .ok (.goto (-39), 3) := dk_167 255 217 (dk_at dksJ16_compareValues_2 3 rfl rfl)
theorem dJ16_compareValues_52 : decode cJ16_compareValues 52 = .ok (.iload_n 2, 1) := dk_28 (dk_at dksJ16_compareValues_2 6 rfl rfl)
theorem dJ16_compareValues_53 : decode cJ16_compareValues 53 = .ok (.iload_n 3, 1) := dk_29 (dk_at dksJ16_compareValues_2 7 rfl rfl)
theorem dJ16_compareValues_54 : decode cJ16_compareValues 54 = .ok (.isub, 1) := dk_100 (dk_at dksJ16_compareValues_2 8 rfl rfl)
theorem dJ16_compareValues_55 : decode cJ16_compareValues 55 = .ok (.ireturn, 1) := dk_172 (dk_at dksJ16_compareValues_2 9 rfl rfl)
abbrev iJ16_compareValues : xM := (yJ16_compareValues, cJ16_compareValues, 8, (some .int), [])
theorem mJ16_compareValues : xOkM iJ16_compareValues := ⟨by decide +kernel, by decide, q1720, q149⟩
abbrev cJ16_compareToLatin1 : ByteArray := prog_43_method_32_code
def yJ16_compareToLatin1 : MethodName := ⟨RJ16, "compareToLatin1", "([B[B)I"⟩
def dkwJ16_compareToLatin1_0 : List UInt8 := [43, 42, 184, 0, 189, 116, 172]
abbrev dktJ16_compareToLatin1_0 : List UInt8 := dkwJ16_compareToLatin1_0 ++ []
theorem dksJ16_compareToLatin1_0 : cJ16_compareToLatin1.data.toList.drop 0 = dktJ16_compareToLatin1_0 := by decide +kernel
theorem dJ16_compareToLatin1_0 : decode cJ16_compareToLatin1 0 = .ok (.aload_n 1, 1) := dk_43 (dk_at dksJ16_compareToLatin1_0 0 rfl rfl)
theorem dJ16_compareToLatin1_1 : decode cJ16_compareToLatin1 1 = .ok (.aload_n 0, 1) := dk_42 (dk_at dksJ16_compareToLatin1_0 1 rfl rfl)
theorem dJ16_compareToLatin1_2 : decode cJ16_compareToLatin1 2 = .ok (.invokestatic 189, 3) := dk_184 0 189 (dk_at dksJ16_compareToLatin1_0 2 rfl rfl)
theorem dJ16_compareToLatin1_5 : decode cJ16_compareToLatin1 5 = .ok (.ineg, 1) := dk_116 (dk_at dksJ16_compareToLatin1_0 5 rfl rfl)
theorem dJ16_compareToLatin1_6 : decode cJ16_compareToLatin1 6 = .ok (.ireturn, 1) := dk_172 (dk_at dksJ16_compareToLatin1_0 6 rfl rfl)
abbrev iJ16_compareToLatin1 : xM := (yJ16_compareToLatin1, cJ16_compareToLatin1, 2, (some .int), [])
theorem mJ16_compareToLatin1 : xOkM iJ16_compareToLatin1 := ⟨by decide +kernel, by decide, q1735, q149⟩
abbrev cJ16_compareTo_2 : ByteArray := prog_43_method_30_code
def yJ16_compareTo_2 : MethodName := ⟨RJ16, "compareTo", "([B[BII)I"⟩
def dkwJ16_compareTo_2_0 : List UInt8 := [28, 42, 184, 0, 180, 29, 43, 184, 0, 180, 42, 43, 28, 29, 184, 0, 176, 172]
abbrev dktJ16_compareTo_2_0 : List UInt8 := dkwJ16_compareTo_2_0 ++ []
theorem dksJ16_compareTo_2_0 : cJ16_compareTo_2.data.toList.drop 0 = dktJ16_compareTo_2_0 := by decide +kernel
theorem dJ16_compareTo_2_0 : decode cJ16_compareTo_2 0 = .ok (.iload_n 2, 1) := dk_28 (dk_at dksJ16_compareTo_2_0 0 rfl rfl)
theorem dJ16_compareTo_2_1 : decode cJ16_compareTo_2 1 = .ok (.aload_n 0, 1) := dk_42 (dk_at dksJ16_compareTo_2_0 1 rfl rfl)
theorem dJ16_compareTo_2_2 : decode cJ16_compareTo_2 2 = .ok (.invokestatic 180, 3) := dk_184 0 180 (dk_at dksJ16_compareTo_2_0 2 rfl rfl)
theorem dJ16_compareTo_2_5 : decode cJ16_compareTo_2 5 = .ok (.iload_n 3, 1) := dk_29 (dk_at dksJ16_compareTo_2_0 5 rfl rfl)
theorem dJ16_compareTo_2_6 : decode cJ16_compareTo_2 6 = .ok (.aload_n 1, 1) := dk_43 (dk_at dksJ16_compareTo_2_0 6 rfl rfl)
theorem dJ16_compareTo_2_7 : decode cJ16_compareTo_2 7 = .ok (.invokestatic 180, 3) := dk_184 0 180 (dk_at dksJ16_compareTo_2_0 7 rfl rfl)
theorem dJ16_compareTo_2_10 : decode cJ16_compareTo_2 10 = .ok (.aload_n 0, 1) := dk_42 (dk_at dksJ16_compareTo_2_0 10 rfl rfl)
theorem dJ16_compareTo_2_11 : decode cJ16_compareTo_2 11 = .ok (.aload_n 1, 1) := dk_43 (dk_at dksJ16_compareTo_2_0 11 rfl rfl)
theorem dJ16_compareTo_2_12 : decode cJ16_compareTo_2 12 = .ok (.iload_n 2, 1) := dk_28 (dk_at dksJ16_compareTo_2_0 12 rfl rfl)
theorem dJ16_compareTo_2_13 : decode cJ16_compareTo_2 13 = .ok (.iload_n 3, 1) := dk_29 (dk_at dksJ16_compareTo_2_0 13 rfl rfl)
theorem dJ16_compareTo_2_14 : decode cJ16_compareTo_2 14 = .ok (.invokestatic 176, 3) := dk_184 0 176 (dk_at dksJ16_compareTo_2_0 14 rfl rfl)
theorem dJ16_compareTo_2_17 : decode cJ16_compareTo_2 17 = .ok (.ireturn, 1) := dk_172 (dk_at dksJ16_compareTo_2_0 17 rfl rfl)
abbrev iJ16_compareTo_2 : xM := (yJ16_compareTo_2, cJ16_compareTo_2, 4, (some .int), [])
theorem mJ16_compareTo_2 : xOkM iJ16_compareTo_2 := ⟨by decide +kernel, by decide, q1754, q149⟩
abbrev cJ16_checkOffset : ByteArray := prog_43_method_92_code
def yJ16_checkOffset : MethodName := ⟨RJ16, "checkOffset", "(I[B)V"⟩
def dkwJ16_checkOffset_0 : List UInt8 := [26, 43, 184, 0, 48, 184, 1, 161, 177]
abbrev dktJ16_checkOffset_0 : List UInt8 := dkwJ16_checkOffset_0 ++ []
theorem dksJ16_checkOffset_0 : cJ16_checkOffset.data.toList.drop 0 = dktJ16_checkOffset_0 := by decide +kernel
theorem dJ16_checkOffset_0 : decode cJ16_checkOffset 0 = .ok (.iload_n 0, 1) := dk_26 (dk_at dksJ16_checkOffset_0 0 rfl rfl)
theorem dJ16_checkOffset_1 : decode cJ16_checkOffset 1 = .ok (.aload_n 1, 1) := dk_43 (dk_at dksJ16_checkOffset_0 1 rfl rfl)
theorem dJ16_checkOffset_2 : decode cJ16_checkOffset 2 = .ok (.invokestatic 48, 3) := dk_184 0 48 (dk_at dksJ16_checkOffset_0 2 rfl rfl)
theorem dJ16_checkOffset_5 : decode cJ16_checkOffset 5 = .ok (.invokestatic 417, 3) := dk_184 1 161 (dk_at dksJ16_checkOffset_0 5 rfl rfl)
theorem dJ16_checkOffset_8 : decode cJ16_checkOffset 8 = .ok (.return_, 1) := dk_177 (dk_at dksJ16_checkOffset_0 8 rfl rfl)
abbrev iJ16_checkOffset : xM := (yJ16_checkOffset, cJ16_checkOffset, 2, none, [])
theorem mJ16_checkOffset : xOkM iJ16_checkOffset := ⟨by decide +kernel, by decide, q1757, q149⟩
abbrev cJ16_compareToLatin1_2 : ByteArray := prog_43_method_33_code
def yJ16_compareToLatin1_2 : MethodName := ⟨RJ16, "compareToLatin1", "([B[BII)I"⟩
def dkwJ16_compareToLatin1_2_0 : List UInt8 := [43, 42, 29, 28, 184, 0, 193, 116, 172]
abbrev dktJ16_compareToLatin1_2_0 : List UInt8 := dkwJ16_compareToLatin1_2_0 ++ []
theorem dksJ16_compareToLatin1_2_0 : cJ16_compareToLatin1_2.data.toList.drop 0 = dktJ16_compareToLatin1_2_0 := by decide +kernel
theorem dJ16_compareToLatin1_2_0 : decode cJ16_compareToLatin1_2 0 = .ok (.aload_n 1, 1) := dk_43 (dk_at dksJ16_compareToLatin1_2_0 0 rfl rfl)
theorem dJ16_compareToLatin1_2_1 : decode cJ16_compareToLatin1_2 1 = .ok (.aload_n 0, 1) := dk_42 (dk_at dksJ16_compareToLatin1_2_0 1 rfl rfl)
theorem dJ16_compareToLatin1_2_2 : decode cJ16_compareToLatin1_2 2 = .ok (.iload_n 3, 1) := dk_29 (dk_at dksJ16_compareToLatin1_2_0 2 rfl rfl)
theorem dJ16_compareToLatin1_2_3 : decode cJ16_compareToLatin1_2 3 = .ok (.iload_n 2, 1) := dk_28 (dk_at dksJ16_compareToLatin1_2_0 3 rfl rfl)
theorem dJ16_compareToLatin1_2_4 : decode cJ16_compareToLatin1_2 4 = .ok (.invokestatic 193, 3) := dk_184 0 193 (dk_at dksJ16_compareToLatin1_2_0 4 rfl rfl)
theorem dJ16_compareToLatin1_2_7 : decode cJ16_compareToLatin1_2 7 = .ok (.ineg, 1) := dk_116 (dk_at dksJ16_compareToLatin1_2_0 7 rfl rfl)
theorem dJ16_compareToLatin1_2_8 : decode cJ16_compareToLatin1_2 8 = .ok (.ireturn, 1) := dk_172 (dk_at dksJ16_compareToLatin1_2_0 8 rfl rfl)
abbrev iJ16_compareToLatin1_2 : xM := (yJ16_compareToLatin1_2, cJ16_compareToLatin1_2, 4, (some .int), [])
theorem mJ16_compareToLatin1_2 : xOkM iJ16_compareToLatin1_2 := ⟨by decide +kernel, by decide, q1767, q149⟩
abbrev cJ16_fillNull : ByteArray := prog_43_method_70_code
def yJ16_fillNull : MethodName := ⟨RJ16, "fillNull", "([BII)V"⟩
def dkwJ16_fillNull_0 : List UInt8 := [42, 27, 4, 120, 28, 4, 120, 3, 184, 1, 124, 177]
abbrev dktJ16_fillNull_0 : List UInt8 := dkwJ16_fillNull_0 ++ []
theorem dksJ16_fillNull_0 : cJ16_fillNull.data.toList.drop 0 = dktJ16_fillNull_0 := by decide +kernel
theorem dJ16_fillNull_0 : decode cJ16_fillNull 0 = .ok (.aload_n 0, 1) := dk_42 (dk_at dksJ16_fillNull_0 0 rfl rfl)
theorem dJ16_fillNull_1 : decode cJ16_fillNull 1 = .ok (.iload_n 1, 1) := dk_27 (dk_at dksJ16_fillNull_0 1 rfl rfl)
theorem dJ16_fillNull_2 : decode cJ16_fillNull 2 = .ok (.iconst 1, 1) := dk_4 (dk_at dksJ16_fillNull_0 2 rfl rfl)
theorem dJ16_fillNull_3 : decode cJ16_fillNull 3 = .ok (.ishl, 1) := dk_120 (dk_at dksJ16_fillNull_0 3 rfl rfl)
theorem dJ16_fillNull_4 : decode cJ16_fillNull 4 = .ok (.iload_n 2, 1) := dk_28 (dk_at dksJ16_fillNull_0 4 rfl rfl)
theorem dJ16_fillNull_5 : decode cJ16_fillNull 5 = .ok (.iconst 1, 1) := dk_4 (dk_at dksJ16_fillNull_0 5 rfl rfl)
theorem dJ16_fillNull_6 : decode cJ16_fillNull 6 = .ok (.ishl, 1) := dk_120 (dk_at dksJ16_fillNull_0 6 rfl rfl)
theorem dJ16_fillNull_7 : decode cJ16_fillNull 7 = .ok (.iconst 0, 1) := dk_3 (dk_at dksJ16_fillNull_0 7 rfl rfl)
theorem dJ16_fillNull_8 : decode cJ16_fillNull 8 = .ok (.invokestatic 380, 3) := dk_184 1 124 (dk_at dksJ16_fillNull_0 8 rfl rfl)
theorem dJ16_fillNull_11 : decode cJ16_fillNull 11 = .ok (.return_, 1) := dk_177 (dk_at dksJ16_fillNull_0 11 rfl rfl)
abbrev iJ16_fillNull : xM := (yJ16_fillNull, cJ16_fillNull, 3, none, [])
theorem mJ16_fillNull : xOkM iJ16_fillNull := ⟨by decide +kernel, by decide, q3199, q149⟩
abbrev cJ17_newLength : ByteArray := prog_93_method_27_code
def yJ17_newLength : MethodName := ⟨RJ17, "newLength", "(III)I"⟩
def dkwJ17_newLength_1 : List UInt8 := [184, 0, 201, 172]
abbrev dktJ17_newLength_1 : List UInt8 := dkwJ17_newLength_1 ++ []
def dkwJ17_newLength_0 : List UInt8 := [26, 27, 28, 184, 0, 194, 96, 62, 3, 29, 162, 0, 11, 29, 18, 200, 163, 0, 5, 29, 172, 26, 27]
abbrev dktJ17_newLength_0 : List UInt8 := dkwJ17_newLength_0 ++ dktJ17_newLength_1
theorem dksJ17_newLength_0 : cJ17_newLength.data.toList.drop 0 = dktJ17_newLength_0 := by decide +kernel
theorem dksJ17_newLength_1 : cJ17_newLength.data.toList.drop 23 = dktJ17_newLength_1 := dk_seg dksJ17_newLength_0 23 rfl rfl
theorem dJ17_newLength_0 : decode cJ17_newLength 0 = .ok (.iload_n 0, 1) := dk_26 (dk_at dksJ17_newLength_0 0 rfl rfl)
theorem dJ17_newLength_1 : decode cJ17_newLength 1 = .ok (.iload_n 1, 1) := dk_27 (dk_at dksJ17_newLength_0 1 rfl rfl)
theorem dJ17_newLength_2 : decode cJ17_newLength 2 = .ok (.iload_n 2, 1) := dk_28 (dk_at dksJ17_newLength_0 2 rfl rfl)
theorem dJ17_newLength_3 : decode cJ17_newLength 3 = .ok (.invokestatic 194, 3) := dk_184 0 194 (dk_at dksJ17_newLength_0 3 rfl rfl)
theorem dJ17_newLength_6 : decode cJ17_newLength 6 = .ok (.iadd, 1) := dk_96 (dk_at dksJ17_newLength_0 6 rfl rfl)
theorem dJ17_newLength_7 : decode cJ17_newLength 7 = .ok (.istore_n 3, 1) := dk_62 (dk_at dksJ17_newLength_0 7 rfl rfl)
theorem dJ17_newLength_8 : decode cJ17_newLength 8 = .ok (.iconst 0, 1) := dk_3 (dk_at dksJ17_newLength_0 8 rfl rfl)
theorem dJ17_newLength_9 : decode cJ17_newLength 9 = .ok (.iload_n 3, 1) := dk_29 (dk_at dksJ17_newLength_0 9 rfl rfl)
theorem dJ17_newLength_10 : decode cJ17_newLength 10 = .ok (.if_icmp .ge 11, 3) := dk_162 0 11 (dk_at dksJ17_newLength_0 10 rfl rfl)
theorem dJ17_newLength_13 : decode cJ17_newLength 13 = .ok (.iload_n 3, 1) := dk_29 (dk_at dksJ17_newLength_0 13 rfl rfl)
theorem dJ17_newLength_14 : decode cJ17_newLength 14 = .ok (.ldc 200, 2) := dk_18 200 (dk_at dksJ17_newLength_0 14 rfl rfl)
theorem dJ17_newLength_16 : decode cJ17_newLength 16 = .ok (.if_icmp .gt 5, 3) := dk_163 0 5 (dk_at dksJ17_newLength_0 16 rfl rfl)
theorem dJ17_newLength_19 : decode cJ17_newLength 19 = .ok (.iload_n 3, 1) := dk_29 (dk_at dksJ17_newLength_0 19 rfl rfl)
theorem dJ17_newLength_20 : decode cJ17_newLength 20 = .ok (.ireturn, 1) := dk_172 (dk_at dksJ17_newLength_0 20 rfl rfl)
theorem dJ17_newLength_21 : decode cJ17_newLength 21 = .ok (.iload_n 0, 1) := dk_26 (dk_at dksJ17_newLength_0 21 rfl rfl)
theorem dJ17_newLength_22 : decode cJ17_newLength 22 = .ok (.iload_n 1, 1) := dk_27 (dk_at dksJ17_newLength_0 22 rfl rfl)
theorem dJ17_newLength_23 : decode cJ17_newLength 23 = .ok (.invokestatic 201, 3) := dk_184 0 201 (dk_at dksJ17_newLength_1 0 rfl rfl)
theorem dJ17_newLength_26 : decode cJ17_newLength 26 = .ok (.ireturn, 1) := dk_172 (dk_at dksJ17_newLength_1 3 rfl rfl)
abbrev iJ17_newLength : xM := (yJ17_newLength, cJ17_newLength, 4, (some .int), [])
theorem mJ17_newLength : xOkM iJ17_newLength := ⟨by decide +kernel, by decide, q430, q150⟩
abbrev cJ17_hugeLength : ByteArray := prog_93_method_28_code
def yJ17_hugeLength : MethodName := ⟨RJ17, "hugeLength", "(II)I"⟩
def dkwJ17_hugeLength_2 : List UInt8 := [191, 28, 18, 200, 163, 0, 6, 18, 200, 172, 28, 172]
abbrev dktJ17_hugeLength_2 : List UInt8 := dkwJ17_hugeLength_2 ++ []
def dkwJ17_hugeLength_1 : List UInt8 := [26, 182, 0, 98, 18, 208, 182, 0, 94, 27, 182, 0, 98, 18, 210, 182, 0, 94, 182, 0, 101, 183, 0, 212]
abbrev dktJ17_hugeLength_1 : List UInt8 := dkwJ17_hugeLength_1 ++ dktJ17_hugeLength_2
def dkwJ17_hugeLength_0 : List UInt8 := [26, 27, 96, 61, 28, 156, 0, 44, 187, 0, 204, 89, 187, 0, 89, 89, 183, 0, 91, 18, 206, 182, 0, 94]
abbrev dktJ17_hugeLength_0 : List UInt8 := dkwJ17_hugeLength_0 ++ dktJ17_hugeLength_1
theorem dksJ17_hugeLength_0 : cJ17_hugeLength.data.toList.drop 0 = dktJ17_hugeLength_0 := by decide +kernel
theorem dksJ17_hugeLength_1 : cJ17_hugeLength.data.toList.drop 24 = dktJ17_hugeLength_1 := dk_seg dksJ17_hugeLength_0 24 rfl rfl
theorem dksJ17_hugeLength_2 : cJ17_hugeLength.data.toList.drop 48 = dktJ17_hugeLength_2 := dk_seg dksJ17_hugeLength_1 24 rfl rfl
theorem dJ17_hugeLength_0 : decode cJ17_hugeLength 0 = .ok (.iload_n 0, 1) := dk_26 (dk_at dksJ17_hugeLength_0 0 rfl rfl)
theorem dJ17_hugeLength_1 : decode cJ17_hugeLength 1 = .ok (.iload_n 1, 1) := dk_27 (dk_at dksJ17_hugeLength_0 1 rfl rfl)
theorem dJ17_hugeLength_2 : decode cJ17_hugeLength 2 = .ok (.iadd, 1) := dk_96 (dk_at dksJ17_hugeLength_0 2 rfl rfl)
theorem dJ17_hugeLength_3 : decode cJ17_hugeLength 3 = .ok (.istore_n 2, 1) := dk_61 (dk_at dksJ17_hugeLength_0 3 rfl rfl)
theorem dJ17_hugeLength_4 : decode cJ17_hugeLength 4 = .ok (.iload_n 2, 1) := dk_28 (dk_at dksJ17_hugeLength_0 4 rfl rfl)
theorem dJ17_hugeLength_5 : decode cJ17_hugeLength 5 = .ok (.ifCond .ge 44, 3) := dk_156 0 44 (dk_at dksJ17_hugeLength_0 5 rfl rfl)
theorem dJ17_hugeLength_8 : decode cJ17_hugeLength 8 = .ok (.new 204, 3) := dk_187 0 204 (dk_at dksJ17_hugeLength_0 8 rfl rfl)
theorem dJ17_hugeLength_11 : decode cJ17_hugeLength 11 = .ok (.dup, 1) := dk_89 (dk_at dksJ17_hugeLength_0 11 rfl rfl)
theorem dJ17_hugeLength_12 : decode cJ17_hugeLength 12 = .ok (.new 89, 3) := dk_187 0 89 (dk_at dksJ17_hugeLength_0 12 rfl rfl)
theorem dJ17_hugeLength_15 : decode cJ17_hugeLength 15 = .ok (.dup, 1) := dk_89 (dk_at dksJ17_hugeLength_0 15 rfl rfl)
theorem dJ17_hugeLength_16 : decode cJ17_hugeLength 16 = .ok (.invokespecial 91, 3) := dk_183 0 91 (dk_at dksJ17_hugeLength_0 16 rfl rfl)
theorem dJ17_hugeLength_19 : decode cJ17_hugeLength 19 = .ok (.ldc 206, 2) := dk_18 206 (dk_at dksJ17_hugeLength_0 19 rfl rfl)
theorem dJ17_hugeLength_21 : decode cJ17_hugeLength 21 = .ok (.invokevirtual 94, 3) := dk_182 0 94 (dk_at dksJ17_hugeLength_0 21 rfl rfl)
theorem dJ17_hugeLength_24 : decode cJ17_hugeLength 24 = .ok (.iload_n 0, 1) := dk_26 (dk_at dksJ17_hugeLength_1 0 rfl rfl)
theorem dJ17_hugeLength_25 : decode cJ17_hugeLength 25 = .ok (.invokevirtual 98, 3) := dk_182 0 98 (dk_at dksJ17_hugeLength_1 1 rfl rfl)
theorem dJ17_hugeLength_28 : decode cJ17_hugeLength 28 = .ok (.ldc 208, 2) := dk_18 208 (dk_at dksJ17_hugeLength_1 4 rfl rfl)
theorem dJ17_hugeLength_30 : decode cJ17_hugeLength 30 = .ok (.invokevirtual 94, 3) := dk_182 0 94 (dk_at dksJ17_hugeLength_1 6 rfl rfl)
theorem dJ17_hugeLength_33 : decode cJ17_hugeLength 33 = .ok (.iload_n 1, 1) := dk_27 (dk_at dksJ17_hugeLength_1 9 rfl rfl)
theorem dJ17_hugeLength_34 : decode cJ17_hugeLength 34 = .ok (.invokevirtual 98, 3) := dk_182 0 98 (dk_at dksJ17_hugeLength_1 10 rfl rfl)
theorem dJ17_hugeLength_37 : decode cJ17_hugeLength 37 = .ok (.ldc 210, 2) := dk_18 210 (dk_at dksJ17_hugeLength_1 13 rfl rfl)
theorem dJ17_hugeLength_39 : decode cJ17_hugeLength 39 = .ok (.invokevirtual 94, 3) := dk_182 0 94 (dk_at dksJ17_hugeLength_1 15 rfl rfl)
theorem dJ17_hugeLength_42 : decode cJ17_hugeLength 42 = .ok (.invokevirtual 101, 3) := dk_182 0 101 (dk_at dksJ17_hugeLength_1 18 rfl rfl)
theorem dJ17_hugeLength_45 : decode cJ17_hugeLength 45 = .ok (.invokespecial 212, 3) := dk_183 0 212 (dk_at dksJ17_hugeLength_1 21 rfl rfl)
theorem dJ17_hugeLength_48 : decode cJ17_hugeLength 48 = .ok (.athrow, 1) := dk_191 (dk_at dksJ17_hugeLength_2 0 rfl rfl)
theorem dJ17_hugeLength_49 : decode cJ17_hugeLength 49 = .ok (.iload_n 2, 1) := dk_28 (dk_at dksJ17_hugeLength_2 1 rfl rfl)
theorem dJ17_hugeLength_50 : decode cJ17_hugeLength 50 = .ok (.ldc 200, 2) := dk_18 200 (dk_at dksJ17_hugeLength_2 2 rfl rfl)
theorem dJ17_hugeLength_52 : decode cJ17_hugeLength 52 = .ok (.if_icmp .gt 6, 3) := dk_163 0 6 (dk_at dksJ17_hugeLength_2 4 rfl rfl)
theorem dJ17_hugeLength_55 : decode cJ17_hugeLength 55 = .ok (.ldc 200, 2) := dk_18 200 (dk_at dksJ17_hugeLength_2 7 rfl rfl)
theorem dJ17_hugeLength_57 : decode cJ17_hugeLength 57 = .ok (.ireturn, 1) := dk_172 (dk_at dksJ17_hugeLength_2 9 rfl rfl)
theorem dJ17_hugeLength_58 : decode cJ17_hugeLength 58 = .ok (.iload_n 2, 1) := dk_28 (dk_at dksJ17_hugeLength_2 10 rfl rfl)
theorem dJ17_hugeLength_59 : decode cJ17_hugeLength 59 = .ok (.ireturn, 1) := dk_172 (dk_at dksJ17_hugeLength_2 11 rfl rfl)
abbrev iJ17_hugeLength : xM := (yJ17_hugeLength, cJ17_hugeLength, 3, (some .int), [])
theorem mJ17_hugeLength : xOkM iJ17_hugeLength := ⟨by decide +kernel, by decide, q437, q150⟩
abbrev cJ17_vectorizedHashCode : ByteArray := prog_93_method_4_code
def yJ17_vectorizedHashCode : MethodName := ⟨RJ17, "vectorizedHashCode", "(Ljava/lang/Object;IIII)I"⟩
def dkwJ17_vectorizedHashCode_6 : List UInt8 := [183, 0, 91, 18, 92, 182, 0, 94, 21, 4, 182, 0, 98, 182, 0, 101, 183, 0, 105, 191, 172]
abbrev dktJ17_vectorizedHashCode_6 : List UInt8 := dkwJ17_vectorizedHashCode_6 ++ []
def dkwJ17_vectorizedHashCode_5 : List UInt8 := [167, 0, 44, 29, 42, 192, 0, 82, 27, 28, 184, 0, 84, 167, 0, 31, 187, 0, 87, 89, 187, 0, 89, 89]
abbrev dktJ17_vectorizedHashCode_5 : List UInt8 := dkwJ17_vectorizedHashCode_5 ++ dktJ17_vectorizedHashCode_6
def dkwJ17_vectorizedHashCode_4 : List UInt8 := [29, 42, 192, 0, 60, 27, 28, 184, 0, 75, 167, 0, 57, 29, 42, 192, 0, 77, 27, 28, 184, 0, 79]
abbrev dktJ17_vectorizedHashCode_4 : List UInt8 := dkwJ17_vectorizedHashCode_4 ++ dktJ17_vectorizedHashCode_5
def dkwJ17_vectorizedHashCode_3 : List UInt8 := [192, 0, 60, 27, 28, 184, 0, 66, 167, 0, 83, 29, 42, 192, 0, 69, 27, 28, 184, 0, 71, 167, 0, 70]
abbrev dktJ17_vectorizedHashCode_3 : List UInt8 := dkwJ17_vectorizedHashCode_3 ++ dktJ17_vectorizedHashCode_4
def dkwJ17_vectorizedHashCode_2 : List UInt8 := [29, 42, 192, 0, 60, 27, 28, 184, 0, 62, 167, 0, 103, 42, 193, 0, 60, 153, 0, 16, 29, 42]
abbrev dktJ17_vectorizedHashCode_2 : List UInt8 := dkwJ17_vectorizedHashCode_2 ++ dktJ17_vectorizedHashCode_3
def dkwJ17_vectorizedHashCode_1 : List UInt8 := [170, 0, 0, 0, 0, 127, 0, 0, 0, 4, 0, 0, 0, 10, 0, 0, 0, 42, 0, 0, 0, 55, 0, 0, 0, 127, 0, 0, 0, 127, 0, 0, 0, 88, 0, 0, 0, 101, 0, 0, 0, 114]
abbrev dktJ17_vectorizedHashCode_1 : List UInt8 := dkwJ17_vectorizedHashCode_1 ++ dktJ17_vectorizedHashCode_2
def dkwJ17_vectorizedHashCode_0 : List UInt8 := [21, 4]
abbrev dktJ17_vectorizedHashCode_0 : List UInt8 := dkwJ17_vectorizedHashCode_0 ++ dktJ17_vectorizedHashCode_1
theorem dksJ17_vectorizedHashCode_0 : cJ17_vectorizedHashCode.data.toList.drop 0 = dktJ17_vectorizedHashCode_0 := by decide +kernel
theorem dksJ17_vectorizedHashCode_1 : cJ17_vectorizedHashCode.data.toList.drop 2 = dktJ17_vectorizedHashCode_1 := dk_seg dksJ17_vectorizedHashCode_0 2 rfl rfl
theorem dksJ17_vectorizedHashCode_2 : cJ17_vectorizedHashCode.data.toList.drop 44 = dktJ17_vectorizedHashCode_2 := dk_seg dksJ17_vectorizedHashCode_1 42 rfl rfl
theorem dksJ17_vectorizedHashCode_3 : cJ17_vectorizedHashCode.data.toList.drop 66 = dktJ17_vectorizedHashCode_3 := dk_seg dksJ17_vectorizedHashCode_2 22 rfl rfl
theorem dksJ17_vectorizedHashCode_4 : cJ17_vectorizedHashCode.data.toList.drop 90 = dktJ17_vectorizedHashCode_4 := dk_seg dksJ17_vectorizedHashCode_3 24 rfl rfl
theorem dksJ17_vectorizedHashCode_5 : cJ17_vectorizedHashCode.data.toList.drop 113 = dktJ17_vectorizedHashCode_5 := dk_seg dksJ17_vectorizedHashCode_4 23 rfl rfl
theorem dksJ17_vectorizedHashCode_6 : cJ17_vectorizedHashCode.data.toList.drop 137 = dktJ17_vectorizedHashCode_6 := dk_seg dksJ17_vectorizedHashCode_5 24 rfl rfl
theorem dJ17_vectorizedHashCode_0 : decode cJ17_vectorizedHashCode 0 = .ok (.iload 4, 2) := dk_21 4 (dk_at dksJ17_vectorizedHashCode_0 0 rfl rfl)
theorem dJ17_vectorizedHashCode_2 : decode cJ17_vectorizedHashCode 2 = .ok (.tableswitch 127 4 10 #[42, 55, 127, 127, 88, 101, 114], 42) := by decide +kernel
theorem dJ17_vectorizedHashCode_44 : decode cJ17_vectorizedHashCode 44 = .ok (.iload_n 3, 1) := dk_29 (dk_at dksJ17_vectorizedHashCode_2 0 rfl rfl)
theorem dJ17_vectorizedHashCode_45 : decode cJ17_vectorizedHashCode 45 = .ok (.aload_n 0, 1) := dk_42 (dk_at dksJ17_vectorizedHashCode_2 1 rfl rfl)
theorem dJ17_vectorizedHashCode_46 : decode cJ17_vectorizedHashCode 46 = .ok (.checkcast 60, 3) := dk_192 0 60 (dk_at dksJ17_vectorizedHashCode_2 2 rfl rfl)
theorem dJ17_vectorizedHashCode_49 : decode cJ17_vectorizedHashCode 49 = .ok (.iload_n 1, 1) := dk_27 (dk_at dksJ17_vectorizedHashCode_2 5 rfl rfl)
theorem dJ17_vectorizedHashCode_50 : decode cJ17_vectorizedHashCode 50 = .ok (.iload_n 2, 1) := dk_28 (dk_at dksJ17_vectorizedHashCode_2 6 rfl rfl)
theorem dJ17_vectorizedHashCode_51 : decode cJ17_vectorizedHashCode 51 = .ok (.invokestatic 62, 3) := dk_184 0 62 (dk_at dksJ17_vectorizedHashCode_2 7 rfl rfl)
theorem dJ17_vectorizedHashCode_54 : decode cJ17_vectorizedHashCode 54 = .ok (.goto 103, 3) := dk_167 0 103 (dk_at dksJ17_vectorizedHashCode_2 10 rfl rfl)
theorem dJ17_vectorizedHashCode_57 : decode cJ17_vectorizedHashCode 57 = .ok (.aload_n 0, 1) := dk_42 (dk_at dksJ17_vectorizedHashCode_2 13 rfl rfl)
theorem dJ17_vectorizedHashCode_58 : decode cJ17_vectorizedHashCode 58 = .ok (.instanceof 60, 3) := dk_193 0 60 (dk_at dksJ17_vectorizedHashCode_2 14 rfl rfl)
theorem dJ17_vectorizedHashCode_61 : decode cJ17_vectorizedHashCode 61 = .ok (.ifCond .eq 16, 3) := dk_153 0 16 (dk_at dksJ17_vectorizedHashCode_2 17 rfl rfl)
theorem dJ17_vectorizedHashCode_64 : decode cJ17_vectorizedHashCode 64 = .ok (.iload_n 3, 1) := dk_29 (dk_at dksJ17_vectorizedHashCode_2 20 rfl rfl)
theorem dJ17_vectorizedHashCode_65 : decode cJ17_vectorizedHashCode 65 = .ok (.aload_n 0, 1) := dk_42 (dk_at dksJ17_vectorizedHashCode_2 21 rfl rfl)
theorem dJ17_vectorizedHashCode_66 : decode cJ17_vectorizedHashCode 66 = .ok (.checkcast 60, 3) := dk_192 0 60 (dk_at dksJ17_vectorizedHashCode_3 0 rfl rfl)
theorem dJ17_vectorizedHashCode_69 : decode cJ17_vectorizedHashCode 69 = .ok (.iload_n 1, 1) := dk_27 (dk_at dksJ17_vectorizedHashCode_3 3 rfl rfl)
theorem dJ17_vectorizedHashCode_70 : decode cJ17_vectorizedHashCode 70 = .ok (.iload_n 2, 1) := dk_28 (dk_at dksJ17_vectorizedHashCode_3 4 rfl rfl)
theorem dJ17_vectorizedHashCode_71 : decode cJ17_vectorizedHashCode 71 = .ok (.invokestatic 66, 3) := dk_184 0 66 (dk_at dksJ17_vectorizedHashCode_3 5 rfl rfl)
theorem dJ17_vectorizedHashCode_74 : decode cJ17_vectorizedHashCode 74 = .ok (.goto 83, 3) := dk_167 0 83 (dk_at dksJ17_vectorizedHashCode_3 8 rfl rfl)
theorem dJ17_vectorizedHashCode_77 : decode cJ17_vectorizedHashCode 77 = .ok (.iload_n 3, 1) := dk_29 (dk_at dksJ17_vectorizedHashCode_3 11 rfl rfl)
theorem dJ17_vectorizedHashCode_78 : decode cJ17_vectorizedHashCode 78 = .ok (.aload_n 0, 1) := dk_42 (dk_at dksJ17_vectorizedHashCode_3 12 rfl rfl)
theorem dJ17_vectorizedHashCode_79 : decode cJ17_vectorizedHashCode 79 = .ok (.checkcast 69, 3) := dk_192 0 69 (dk_at dksJ17_vectorizedHashCode_3 13 rfl rfl)
theorem dJ17_vectorizedHashCode_82 : decode cJ17_vectorizedHashCode 82 = .ok (.iload_n 1, 1) := dk_27 (dk_at dksJ17_vectorizedHashCode_3 16 rfl rfl)
theorem dJ17_vectorizedHashCode_83 : decode cJ17_vectorizedHashCode 83 = .ok (.iload_n 2, 1) := dk_28 (dk_at dksJ17_vectorizedHashCode_3 17 rfl rfl)
theorem dJ17_vectorizedHashCode_84 : decode cJ17_vectorizedHashCode 84 = .ok (.invokestatic 71, 3) := dk_184 0 71 (dk_at dksJ17_vectorizedHashCode_3 18 rfl rfl)
theorem dJ17_vectorizedHashCode_87 : decode cJ17_vectorizedHashCode 87 = .ok (.goto 70, 3) := dk_167 0 70 (dk_at dksJ17_vectorizedHashCode_3 21 rfl rfl)
theorem dJ17_vectorizedHashCode_90 : decode cJ17_vectorizedHashCode 90 = .ok (.iload_n 3, 1) := dk_29 (dk_at dksJ17_vectorizedHashCode_4 0 rfl rfl)
theorem dJ17_vectorizedHashCode_91 : decode cJ17_vectorizedHashCode 91 = .ok (.aload_n 0, 1) := dk_42 (dk_at dksJ17_vectorizedHashCode_4 1 rfl rfl)
theorem dJ17_vectorizedHashCode_92 : decode cJ17_vectorizedHashCode 92 = .ok (.checkcast 60, 3) := dk_192 0 60 (dk_at dksJ17_vectorizedHashCode_4 2 rfl rfl)
theorem dJ17_vectorizedHashCode_95 : decode cJ17_vectorizedHashCode 95 = .ok (.iload_n 1, 1) := dk_27 (dk_at dksJ17_vectorizedHashCode_4 5 rfl rfl)
theorem dJ17_vectorizedHashCode_96 : decode cJ17_vectorizedHashCode 96 = .ok (.iload_n 2, 1) := dk_28 (dk_at dksJ17_vectorizedHashCode_4 6 rfl rfl)
theorem dJ17_vectorizedHashCode_97 : decode cJ17_vectorizedHashCode 97 = .ok (.invokestatic 75, 3) := dk_184 0 75 (dk_at dksJ17_vectorizedHashCode_4 7 rfl rfl)
theorem dJ17_vectorizedHashCode_100 : decode cJ17_vectorizedHashCode 100 = .ok (.goto 57, 3) := dk_167 0 57 (dk_at dksJ17_vectorizedHashCode_4 10 rfl rfl)
theorem dJ17_vectorizedHashCode_103 : decode cJ17_vectorizedHashCode 103 = .ok (.iload_n 3, 1) := dk_29 (dk_at dksJ17_vectorizedHashCode_4 13 rfl rfl)
theorem dJ17_vectorizedHashCode_104 : decode cJ17_vectorizedHashCode 104 = .ok (.aload_n 0, 1) := dk_42 (dk_at dksJ17_vectorizedHashCode_4 14 rfl rfl)
theorem dJ17_vectorizedHashCode_105 : decode cJ17_vectorizedHashCode 105 = .ok (.checkcast 77, 3) := dk_192 0 77 (dk_at dksJ17_vectorizedHashCode_4 15 rfl rfl)
theorem dJ17_vectorizedHashCode_108 : decode cJ17_vectorizedHashCode 108 = .ok (.iload_n 1, 1) := dk_27 (dk_at dksJ17_vectorizedHashCode_4 18 rfl rfl)
theorem dJ17_vectorizedHashCode_109 : decode cJ17_vectorizedHashCode 109 = .ok (.iload_n 2, 1) := dk_28 (dk_at dksJ17_vectorizedHashCode_4 19 rfl rfl)
theorem dJ17_vectorizedHashCode_110 : decode cJ17_vectorizedHashCode 110 = .ok (.invokestatic 79, 3) := dk_184 0 79 (dk_at dksJ17_vectorizedHashCode_4 20 rfl rfl)
theorem dJ17_vectorizedHashCode_113 : decode cJ17_vectorizedHashCode 113 = .ok (.goto 44, 3) := dk_167 0 44 (dk_at dksJ17_vectorizedHashCode_5 0 rfl rfl)
theorem dJ17_vectorizedHashCode_116 : decode cJ17_vectorizedHashCode 116 = .ok (.iload_n 3, 1) := dk_29 (dk_at dksJ17_vectorizedHashCode_5 3 rfl rfl)
theorem dJ17_vectorizedHashCode_117 : decode cJ17_vectorizedHashCode 117 = .ok (.aload_n 0, 1) := dk_42 (dk_at dksJ17_vectorizedHashCode_5 4 rfl rfl)
theorem dJ17_vectorizedHashCode_118 : decode cJ17_vectorizedHashCode 118 = .ok (.checkcast 82, 3) := dk_192 0 82 (dk_at dksJ17_vectorizedHashCode_5 5 rfl rfl)
theorem dJ17_vectorizedHashCode_121 : decode cJ17_vectorizedHashCode 121 = .ok (.iload_n 1, 1) := dk_27 (dk_at dksJ17_vectorizedHashCode_5 8 rfl rfl)
theorem dJ17_vectorizedHashCode_122 : decode cJ17_vectorizedHashCode 122 = .ok (.iload_n 2, 1) := dk_28 (dk_at dksJ17_vectorizedHashCode_5 9 rfl rfl)
theorem dJ17_vectorizedHashCode_123 : decode cJ17_vectorizedHashCode 123 = .ok (.invokestatic 84, 3) := dk_184 0 84 (dk_at dksJ17_vectorizedHashCode_5 10 rfl rfl)
theorem dJ17_vectorizedHashCode_126 : decode cJ17_vectorizedHashCode 126 = .ok (.goto 31, 3) := dk_167 0 31 (dk_at dksJ17_vectorizedHashCode_5 13 rfl rfl)
theorem dJ17_vectorizedHashCode_129 : decode cJ17_vectorizedHashCode 129 = .ok (.new 87, 3) := dk_187 0 87 (dk_at dksJ17_vectorizedHashCode_5 16 rfl rfl)
theorem dJ17_vectorizedHashCode_132 : decode cJ17_vectorizedHashCode 132 = .ok (.dup, 1) := dk_89 (dk_at dksJ17_vectorizedHashCode_5 19 rfl rfl)
theorem dJ17_vectorizedHashCode_133 : decode cJ17_vectorizedHashCode 133 = .ok (.new 89, 3) := dk_187 0 89 (dk_at dksJ17_vectorizedHashCode_5 20 rfl rfl)
theorem dJ17_vectorizedHashCode_136 : decode cJ17_vectorizedHashCode 136 = .ok (.dup, 1) := dk_89 (dk_at dksJ17_vectorizedHashCode_5 23 rfl rfl)
theorem dJ17_vectorizedHashCode_137 : decode cJ17_vectorizedHashCode 137 = .ok (.invokespecial 91, 3) := dk_183 0 91 (dk_at dksJ17_vectorizedHashCode_6 0 rfl rfl)
theorem dJ17_vectorizedHashCode_140 : decode cJ17_vectorizedHashCode 140 = .ok (.ldc 92, 2) := dk_18 92 (dk_at dksJ17_vectorizedHashCode_6 3 rfl rfl)
theorem dJ17_vectorizedHashCode_142 : decode cJ17_vectorizedHashCode 142 = .ok (.invokevirtual 94, 3) := dk_182 0 94 (dk_at dksJ17_vectorizedHashCode_6 5 rfl rfl)
theorem dJ17_vectorizedHashCode_145 : decode cJ17_vectorizedHashCode 145 = .ok (.iload 4, 2) := dk_21 4 (dk_at dksJ17_vectorizedHashCode_6 8 rfl rfl)
theorem dJ17_vectorizedHashCode_147 : decode cJ17_vectorizedHashCode 147 = .ok (.invokevirtual 98, 3) := dk_182 0 98 (dk_at dksJ17_vectorizedHashCode_6 10 rfl rfl)
theorem dJ17_vectorizedHashCode_150 : decode cJ17_vectorizedHashCode 150 = .ok (.invokevirtual 101, 3) := dk_182 0 101 (dk_at dksJ17_vectorizedHashCode_6 13 rfl rfl)
theorem dJ17_vectorizedHashCode_153 : decode cJ17_vectorizedHashCode 153 = .ok (.invokespecial 105, 3) := dk_183 0 105 (dk_at dksJ17_vectorizedHashCode_6 16 rfl rfl)
theorem dJ17_vectorizedHashCode_156 : decode cJ17_vectorizedHashCode 156 = .ok (.athrow, 1) := dk_191 (dk_at dksJ17_vectorizedHashCode_6 19 rfl rfl)
theorem dJ17_vectorizedHashCode_157 : decode cJ17_vectorizedHashCode 157 = .ok (.ireturn, 1) := dk_172 (dk_at dksJ17_vectorizedHashCode_6 20 rfl rfl)
abbrev iJ17_vectorizedHashCode : xM := (yJ17_vectorizedHashCode, cJ17_vectorizedHashCode, 5, (some .int), [])
theorem mJ17_vectorizedHashCode : xOkM iJ17_vectorizedHashCode := ⟨by decide +kernel, by decide, q1403, q150⟩
abbrev cJ17_signedHashCode : ByteArray := prog_93_method_5_code
def yJ17_signedHashCode : MethodName := ⟨RJ17, "signedHashCode", "(I[BII)I"⟩
def dkwJ17_signedHashCode_1 : List UInt8 := [17, 0, 255, 126, 96, 59, 132, 5, 1, 167, 255, 232, 26, 172]
abbrev dktJ17_signedHashCode_1 : List UInt8 := dkwJ17_signedHashCode_1 ++ []
def dkwJ17_signedHashCode_0 : List UInt8 := [28, 29, 96, 54, 4, 28, 54, 5, 21, 5, 21, 4, 162, 0, 23, 16, 31, 26, 104, 43, 21, 5, 51]
abbrev dktJ17_signedHashCode_0 : List UInt8 := dkwJ17_signedHashCode_0 ++ dktJ17_signedHashCode_1
theorem dksJ17_signedHashCode_0 : cJ17_signedHashCode.data.toList.drop 0 = dktJ17_signedHashCode_0 := by decide +kernel
theorem dksJ17_signedHashCode_1 : cJ17_signedHashCode.data.toList.drop 23 = dktJ17_signedHashCode_1 := dk_seg dksJ17_signedHashCode_0 23 rfl rfl
theorem dJ17_signedHashCode_0 : decode cJ17_signedHashCode 0 = .ok (.iload_n 2, 1) := dk_28 (dk_at dksJ17_signedHashCode_0 0 rfl rfl)
theorem dJ17_signedHashCode_1 : decode cJ17_signedHashCode 1 = .ok (.iload_n 3, 1) := dk_29 (dk_at dksJ17_signedHashCode_0 1 rfl rfl)
theorem dJ17_signedHashCode_2 : decode cJ17_signedHashCode 2 = .ok (.iadd, 1) := dk_96 (dk_at dksJ17_signedHashCode_0 2 rfl rfl)
theorem dJ17_signedHashCode_3 : decode cJ17_signedHashCode 3 = .ok (.istore 4, 2) := dk_54 4 (dk_at dksJ17_signedHashCode_0 3 rfl rfl)
theorem dJ17_signedHashCode_5 : decode cJ17_signedHashCode 5 = .ok (.iload_n 2, 1) := dk_28 (dk_at dksJ17_signedHashCode_0 5 rfl rfl)
theorem dJ17_signedHashCode_6 : decode cJ17_signedHashCode 6 = .ok (.istore 5, 2) := dk_54 5 (dk_at dksJ17_signedHashCode_0 6 rfl rfl)
theorem dJ17_signedHashCode_8 : decode cJ17_signedHashCode 8 = .ok (.iload 5, 2) := dk_21 5 (dk_at dksJ17_signedHashCode_0 8 rfl rfl)
theorem dJ17_signedHashCode_10 : decode cJ17_signedHashCode 10 = .ok (.iload 4, 2) := dk_21 4 (dk_at dksJ17_signedHashCode_0 10 rfl rfl)
theorem dJ17_signedHashCode_12 : decode cJ17_signedHashCode 12 = .ok (.if_icmp .ge 23, 3) := dk_162 0 23 (dk_at dksJ17_signedHashCode_0 12 rfl rfl)
theorem dJ17_signedHashCode_15 : decode cJ17_signedHashCode 15 = .ok (.bipush 31, 2) := dk_16 31 (dk_at dksJ17_signedHashCode_0 15 rfl rfl)
theorem dJ17_signedHashCode_17 : decode cJ17_signedHashCode 17 = .ok (.iload_n 0, 1) := dk_26 (dk_at dksJ17_signedHashCode_0 17 rfl rfl)
theorem dJ17_signedHashCode_18 : decode cJ17_signedHashCode 18 = .ok (.imul, 1) := dk_104 (dk_at dksJ17_signedHashCode_0 18 rfl rfl)
theorem dJ17_signedHashCode_19 : decode cJ17_signedHashCode 19 = .ok (.aload_n 1, 1) := dk_43 (dk_at dksJ17_signedHashCode_0 19 rfl rfl)
theorem dJ17_signedHashCode_20 : decode cJ17_signedHashCode 20 = .ok (.iload 5, 2) := dk_21 5 (dk_at dksJ17_signedHashCode_0 20 rfl rfl)
theorem dJ17_signedHashCode_22 : decode cJ17_signedHashCode 22 = .ok (.baload, 1) := dk_51 (dk_at dksJ17_signedHashCode_0 22 rfl rfl)
theorem dJ17_signedHashCode_23 : decode cJ17_signedHashCode 23 = .ok (.sipush 255, 3) := dk_17 0 255 (dk_at dksJ17_signedHashCode_1 0 rfl rfl)
theorem dJ17_signedHashCode_26 : decode cJ17_signedHashCode 26 = .ok (.iand, 1) := dk_126 (dk_at dksJ17_signedHashCode_1 3 rfl rfl)
theorem dJ17_signedHashCode_27 : decode cJ17_signedHashCode 27 = .ok (.iadd, 1) := dk_96 (dk_at dksJ17_signedHashCode_1 4 rfl rfl)
theorem dJ17_signedHashCode_28 : decode cJ17_signedHashCode 28 = .ok (.istore_n 0, 1) := dk_59 (dk_at dksJ17_signedHashCode_1 5 rfl rfl)
theorem dJ17_signedHashCode_29 : decode cJ17_signedHashCode 29 = .ok (.iinc 5 1, 3) := dk_132 5 1 (dk_at dksJ17_signedHashCode_1 6 rfl rfl)
theorem dJ17_signedHashCode_32 : decode cJ17_signedHashCode 32 = .ok (.goto (-24), 3) := dk_167 255 232 (dk_at dksJ17_signedHashCode_1 9 rfl rfl)
theorem dJ17_signedHashCode_35 : decode cJ17_signedHashCode 35 = .ok (.iload_n 0, 1) := dk_26 (dk_at dksJ17_signedHashCode_1 12 rfl rfl)
theorem dJ17_signedHashCode_36 : decode cJ17_signedHashCode 36 = .ok (.ireturn, 1) := dk_172 (dk_at dksJ17_signedHashCode_1 13 rfl rfl)
abbrev iJ17_signedHashCode : xM := (yJ17_signedHashCode, cJ17_signedHashCode, 6, (some .int), [])
theorem mJ17_signedHashCode : xOkM iJ17_signedHashCode := ⟨by decide +kernel, by decide, q1407, q150⟩
abbrev cJ17_utf16hashCode : ByteArray := prog_93_method_10_code
def yJ17_utf16hashCode : MethodName := ⟨RJ17, "utf16hashCode", "(I[BII)I"⟩
def dkwJ17_utf16hashCode_1 : List UInt8 := [21, 5, 185, 0, 110, 3, 0, 96, 59, 132, 5, 1, 167, 255, 229, 26, 172]
abbrev dktJ17_utf16hashCode_1 : List UInt8 := dkwJ17_utf16hashCode_1 ++ []
def dkwJ17_utf16hashCode_0 : List UInt8 := [28, 29, 96, 54, 4, 28, 54, 5, 21, 5, 21, 4, 162, 0, 26, 16, 31, 26, 104, 178, 0, 106, 43]
abbrev dktJ17_utf16hashCode_0 : List UInt8 := dkwJ17_utf16hashCode_0 ++ dktJ17_utf16hashCode_1
theorem dksJ17_utf16hashCode_0 : cJ17_utf16hashCode.data.toList.drop 0 = dktJ17_utf16hashCode_0 := by decide +kernel
theorem dksJ17_utf16hashCode_1 : cJ17_utf16hashCode.data.toList.drop 23 = dktJ17_utf16hashCode_1 := dk_seg dksJ17_utf16hashCode_0 23 rfl rfl
theorem dJ17_utf16hashCode_0 : decode cJ17_utf16hashCode 0 = .ok (.iload_n 2, 1) := dk_28 (dk_at dksJ17_utf16hashCode_0 0 rfl rfl)
theorem dJ17_utf16hashCode_1 : decode cJ17_utf16hashCode 1 = .ok (.iload_n 3, 1) := dk_29 (dk_at dksJ17_utf16hashCode_0 1 rfl rfl)
theorem dJ17_utf16hashCode_2 : decode cJ17_utf16hashCode 2 = .ok (.iadd, 1) := dk_96 (dk_at dksJ17_utf16hashCode_0 2 rfl rfl)
theorem dJ17_utf16hashCode_3 : decode cJ17_utf16hashCode 3 = .ok (.istore 4, 2) := dk_54 4 (dk_at dksJ17_utf16hashCode_0 3 rfl rfl)
theorem dJ17_utf16hashCode_5 : decode cJ17_utf16hashCode 5 = .ok (.iload_n 2, 1) := dk_28 (dk_at dksJ17_utf16hashCode_0 5 rfl rfl)
theorem dJ17_utf16hashCode_6 : decode cJ17_utf16hashCode 6 = .ok (.istore 5, 2) := dk_54 5 (dk_at dksJ17_utf16hashCode_0 6 rfl rfl)
theorem dJ17_utf16hashCode_8 : decode cJ17_utf16hashCode 8 = .ok (.iload 5, 2) := dk_21 5 (dk_at dksJ17_utf16hashCode_0 8 rfl rfl)
theorem dJ17_utf16hashCode_10 : decode cJ17_utf16hashCode 10 = .ok (.iload 4, 2) := dk_21 4 (dk_at dksJ17_utf16hashCode_0 10 rfl rfl)
theorem dJ17_utf16hashCode_12 : decode cJ17_utf16hashCode 12 = .ok (.if_icmp .ge 26, 3) := dk_162 0 26 (dk_at dksJ17_utf16hashCode_0 12 rfl rfl)
theorem dJ17_utf16hashCode_15 : decode cJ17_utf16hashCode 15 = .ok (.bipush 31, 2) := dk_16 31 (dk_at dksJ17_utf16hashCode_0 15 rfl rfl)
theorem dJ17_utf16hashCode_17 : decode cJ17_utf16hashCode 17 = .ok (.iload_n 0, 1) := dk_26 (dk_at dksJ17_utf16hashCode_0 17 rfl rfl)
theorem dJ17_utf16hashCode_18 : decode cJ17_utf16hashCode 18 = .ok (.imul, 1) := dk_104 (dk_at dksJ17_utf16hashCode_0 18 rfl rfl)
theorem dJ17_utf16hashCode_19 : decode cJ17_utf16hashCode 19 = .ok (.getstatic 106, 3) := dk_178 0 106 (dk_at dksJ17_utf16hashCode_0 19 rfl rfl)
theorem dJ17_utf16hashCode_22 : decode cJ17_utf16hashCode 22 = .ok (.aload_n 1, 1) := dk_43 (dk_at dksJ17_utf16hashCode_0 22 rfl rfl)
theorem dJ17_utf16hashCode_23 : decode cJ17_utf16hashCode 23 = .ok (.iload 5, 2) := dk_21 5 (dk_at dksJ17_utf16hashCode_1 0 rfl rfl)
theorem dJ17_utf16hashCode_25 : decode cJ17_utf16hashCode 25 = .ok (.invokeinterface 110 3, 5) := by decide +kernel
theorem dJ17_utf16hashCode_30 : decode cJ17_utf16hashCode 30 = .ok (.iadd, 1) := dk_96 (dk_at dksJ17_utf16hashCode_1 7 rfl rfl)
theorem dJ17_utf16hashCode_31 : decode cJ17_utf16hashCode 31 = .ok (.istore_n 0, 1) := dk_59 (dk_at dksJ17_utf16hashCode_1 8 rfl rfl)
theorem dJ17_utf16hashCode_32 : decode cJ17_utf16hashCode 32 = .ok (.iinc 5 1, 3) := dk_132 5 1 (dk_at dksJ17_utf16hashCode_1 9 rfl rfl)
theorem dJ17_utf16hashCode_35 : decode cJ17_utf16hashCode 35 = .ok (.goto (-27), 3) := dk_167 255 229 (dk_at dksJ17_utf16hashCode_1 12 rfl rfl)
theorem dJ17_utf16hashCode_38 : decode cJ17_utf16hashCode 38 = .ok (.iload_n 0, 1) := dk_26 (dk_at dksJ17_utf16hashCode_1 15 rfl rfl)
theorem dJ17_utf16hashCode_39 : decode cJ17_utf16hashCode 39 = .ok (.ireturn, 1) := dk_172 (dk_at dksJ17_utf16hashCode_1 16 rfl rfl)
abbrev iJ17_utf16hashCode : xM := (yJ17_utf16hashCode, cJ17_utf16hashCode, 6, (some .int), [])
theorem mJ17_utf16hashCode : xOkM iJ17_utf16hashCode := ⟨by decide +kernel, by decide, q1410, q150⟩
abbrev cJ17_hashCode : ByteArray := prog_93_method_7_code
def yJ17_hashCode : MethodName := ⟨RJ17, "hashCode", "(I[CII)I"⟩
def dkwJ17_hashCode_1 : List UInt8 := [59, 132, 5, 1, 167, 255, 236, 26, 172]
abbrev dktJ17_hashCode_1 : List UInt8 := dkwJ17_hashCode_1 ++ []
def dkwJ17_hashCode_0 : List UInt8 := [28, 29, 96, 54, 4, 28, 54, 5, 21, 5, 21, 4, 162, 0, 19, 16, 31, 26, 104, 43, 21, 5, 52, 96]
abbrev dktJ17_hashCode_0 : List UInt8 := dkwJ17_hashCode_0 ++ dktJ17_hashCode_1
theorem dksJ17_hashCode_0 : cJ17_hashCode.data.toList.drop 0 = dktJ17_hashCode_0 := by decide +kernel
theorem dksJ17_hashCode_1 : cJ17_hashCode.data.toList.drop 24 = dktJ17_hashCode_1 := dk_seg dksJ17_hashCode_0 24 rfl rfl
theorem dJ17_hashCode_0 : decode cJ17_hashCode 0 = .ok (.iload_n 2, 1) := dk_28 (dk_at dksJ17_hashCode_0 0 rfl rfl)
theorem dJ17_hashCode_1 : decode cJ17_hashCode 1 = .ok (.iload_n 3, 1) := dk_29 (dk_at dksJ17_hashCode_0 1 rfl rfl)
theorem dJ17_hashCode_2 : decode cJ17_hashCode 2 = .ok (.iadd, 1) := dk_96 (dk_at dksJ17_hashCode_0 2 rfl rfl)
theorem dJ17_hashCode_3 : decode cJ17_hashCode 3 = .ok (.istore 4, 2) := dk_54 4 (dk_at dksJ17_hashCode_0 3 rfl rfl)
theorem dJ17_hashCode_5 : decode cJ17_hashCode 5 = .ok (.iload_n 2, 1) := dk_28 (dk_at dksJ17_hashCode_0 5 rfl rfl)
theorem dJ17_hashCode_6 : decode cJ17_hashCode 6 = .ok (.istore 5, 2) := dk_54 5 (dk_at dksJ17_hashCode_0 6 rfl rfl)
theorem dJ17_hashCode_8 : decode cJ17_hashCode 8 = .ok (.iload 5, 2) := dk_21 5 (dk_at dksJ17_hashCode_0 8 rfl rfl)
theorem dJ17_hashCode_10 : decode cJ17_hashCode 10 = .ok (.iload 4, 2) := dk_21 4 (dk_at dksJ17_hashCode_0 10 rfl rfl)
theorem dJ17_hashCode_12 : decode cJ17_hashCode 12 = .ok (.if_icmp .ge 19, 3) := dk_162 0 19 (dk_at dksJ17_hashCode_0 12 rfl rfl)
theorem dJ17_hashCode_15 : decode cJ17_hashCode 15 = .ok (.bipush 31, 2) := dk_16 31 (dk_at dksJ17_hashCode_0 15 rfl rfl)
theorem dJ17_hashCode_17 : decode cJ17_hashCode 17 = .ok (.iload_n 0, 1) := dk_26 (dk_at dksJ17_hashCode_0 17 rfl rfl)
theorem dJ17_hashCode_18 : decode cJ17_hashCode 18 = .ok (.imul, 1) := dk_104 (dk_at dksJ17_hashCode_0 18 rfl rfl)
theorem dJ17_hashCode_19 : decode cJ17_hashCode 19 = .ok (.aload_n 1, 1) := dk_43 (dk_at dksJ17_hashCode_0 19 rfl rfl)
theorem dJ17_hashCode_20 : decode cJ17_hashCode 20 = .ok (.iload 5, 2) := dk_21 5 (dk_at dksJ17_hashCode_0 20 rfl rfl)
theorem dJ17_hashCode_22 : decode cJ17_hashCode 22 = .ok (.caload, 1) := dk_52 (dk_at dksJ17_hashCode_0 22 rfl rfl)
theorem dJ17_hashCode_23 : decode cJ17_hashCode 23 = .ok (.iadd, 1) := dk_96 (dk_at dksJ17_hashCode_0 23 rfl rfl)
theorem dJ17_hashCode_24 : decode cJ17_hashCode 24 = .ok (.istore_n 0, 1) := dk_59 (dk_at dksJ17_hashCode_1 0 rfl rfl)
theorem dJ17_hashCode_25 : decode cJ17_hashCode 25 = .ok (.iinc 5 1, 3) := dk_132 5 1 (dk_at dksJ17_hashCode_1 1 rfl rfl)
theorem dJ17_hashCode_28 : decode cJ17_hashCode 28 = .ok (.goto (-20), 3) := dk_167 255 236 (dk_at dksJ17_hashCode_1 4 rfl rfl)
theorem dJ17_hashCode_31 : decode cJ17_hashCode 31 = .ok (.iload_n 0, 1) := dk_26 (dk_at dksJ17_hashCode_1 7 rfl rfl)
theorem dJ17_hashCode_32 : decode cJ17_hashCode 32 = .ok (.ireturn, 1) := dk_172 (dk_at dksJ17_hashCode_1 8 rfl rfl)
abbrev iJ17_hashCode : xM := (yJ17_hashCode, cJ17_hashCode, 6, (some .int), [])
theorem mJ17_hashCode : xOkM iJ17_hashCode := ⟨by decide +kernel, by decide, q1427, q150⟩
abbrev cJ17_hashCode_2 : ByteArray := prog_93_method_6_code
def yJ17_hashCode_2 : MethodName := ⟨RJ17, "hashCode", "(I[BII)I"⟩
def dkwJ17_hashCode_2_1 : List UInt8 := [59, 132, 5, 1, 167, 255, 236, 26, 172]
abbrev dktJ17_hashCode_2_1 : List UInt8 := dkwJ17_hashCode_2_1 ++ []
def dkwJ17_hashCode_2_0 : List UInt8 := [28, 29, 96, 54, 4, 28, 54, 5, 21, 5, 21, 4, 162, 0, 19, 16, 31, 26, 104, 43, 21, 5, 51, 96]
abbrev dktJ17_hashCode_2_0 : List UInt8 := dkwJ17_hashCode_2_0 ++ dktJ17_hashCode_2_1
theorem dksJ17_hashCode_2_0 : cJ17_hashCode_2.data.toList.drop 0 = dktJ17_hashCode_2_0 := by decide +kernel
theorem dksJ17_hashCode_2_1 : cJ17_hashCode_2.data.toList.drop 24 = dktJ17_hashCode_2_1 := dk_seg dksJ17_hashCode_2_0 24 rfl rfl
theorem dJ17_hashCode_2_0 : decode cJ17_hashCode_2 0 = .ok (.iload_n 2, 1) := dk_28 (dk_at dksJ17_hashCode_2_0 0 rfl rfl)
theorem dJ17_hashCode_2_1 : decode cJ17_hashCode_2 1 = .ok (.iload_n 3, 1) := dk_29 (dk_at dksJ17_hashCode_2_0 1 rfl rfl)
theorem dJ17_hashCode_2_2 : decode cJ17_hashCode_2 2 = .ok (.iadd, 1) := dk_96 (dk_at dksJ17_hashCode_2_0 2 rfl rfl)
theorem dJ17_hashCode_2_3 : decode cJ17_hashCode_2 3 = .ok (.istore 4, 2) := dk_54 4 (dk_at dksJ17_hashCode_2_0 3 rfl rfl)
theorem dJ17_hashCode_2_5 : decode cJ17_hashCode_2 5 = .ok (.iload_n 2, 1) := dk_28 (dk_at dksJ17_hashCode_2_0 5 rfl rfl)
theorem dJ17_hashCode_2_6 : decode cJ17_hashCode_2 6 = .ok (.istore 5, 2) := dk_54 5 (dk_at dksJ17_hashCode_2_0 6 rfl rfl)
theorem dJ17_hashCode_2_8 : decode cJ17_hashCode_2 8 = .ok (.iload 5, 2) := dk_21 5 (dk_at dksJ17_hashCode_2_0 8 rfl rfl)
theorem dJ17_hashCode_2_10 : decode cJ17_hashCode_2 10 = .ok (.iload 4, 2) := dk_21 4 (dk_at dksJ17_hashCode_2_0 10 rfl rfl)
theorem dJ17_hashCode_2_12 : decode cJ17_hashCode_2 12 = .ok (.if_icmp .ge 19, 3) := dk_162 0 19 (dk_at dksJ17_hashCode_2_0 12 rfl rfl)
theorem dJ17_hashCode_2_15 : decode cJ17_hashCode_2 15 = .ok (.bipush 31, 2) := dk_16 31 (dk_at dksJ17_hashCode_2_0 15 rfl rfl)
theorem dJ17_hashCode_2_17 : decode cJ17_hashCode_2 17 = .ok (.iload_n 0, 1) := dk_26 (dk_at dksJ17_hashCode_2_0 17 rfl rfl)
theorem dJ17_hashCode_2_18 : decode cJ17_hashCode_2 18 = .ok (.imul, 1) := dk_104 (dk_at dksJ17_hashCode_2_0 18 rfl rfl)
theorem dJ17_hashCode_2_19 : decode cJ17_hashCode_2 19 = .ok (.aload_n 1, 1) := dk_43 (dk_at dksJ17_hashCode_2_0 19 rfl rfl)
theorem dJ17_hashCode_2_20 : decode cJ17_hashCode_2 20 = .ok (.iload 5, 2) := dk_21 5 (dk_at dksJ17_hashCode_2_0 20 rfl rfl)
theorem dJ17_hashCode_2_22 : decode cJ17_hashCode_2 22 = .ok (.baload, 1) := dk_51 (dk_at dksJ17_hashCode_2_0 22 rfl rfl)
theorem dJ17_hashCode_2_23 : decode cJ17_hashCode_2 23 = .ok (.iadd, 1) := dk_96 (dk_at dksJ17_hashCode_2_0 23 rfl rfl)
theorem dJ17_hashCode_2_24 : decode cJ17_hashCode_2 24 = .ok (.istore_n 0, 1) := dk_59 (dk_at dksJ17_hashCode_2_1 0 rfl rfl)
theorem dJ17_hashCode_2_25 : decode cJ17_hashCode_2 25 = .ok (.iinc 5 1, 3) := dk_132 5 1 (dk_at dksJ17_hashCode_2_1 1 rfl rfl)
theorem dJ17_hashCode_2_28 : decode cJ17_hashCode_2 28 = .ok (.goto (-20), 3) := dk_167 255 236 (dk_at dksJ17_hashCode_2_1 4 rfl rfl)
theorem dJ17_hashCode_2_31 : decode cJ17_hashCode_2 31 = .ok (.iload_n 0, 1) := dk_26 (dk_at dksJ17_hashCode_2_1 7 rfl rfl)
theorem dJ17_hashCode_2_32 : decode cJ17_hashCode_2 32 = .ok (.ireturn, 1) := dk_172 (dk_at dksJ17_hashCode_2_1 8 rfl rfl)
abbrev iJ17_hashCode_2 : xM := (yJ17_hashCode_2, cJ17_hashCode_2, 6, (some .int), [])
theorem mJ17_hashCode_2 : xOkM iJ17_hashCode_2 := ⟨by decide +kernel, by decide, q1430, q150⟩
abbrev cJ17_hashCode_3 : ByteArray := prog_93_method_8_code
def yJ17_hashCode_3 : MethodName := ⟨RJ17, "hashCode", "(I[SII)I"⟩
def dkwJ17_hashCode_3_1 : List UInt8 := [59, 132, 5, 1, 167, 255, 236, 26, 172]
abbrev dktJ17_hashCode_3_1 : List UInt8 := dkwJ17_hashCode_3_1 ++ []
def dkwJ17_hashCode_3_0 : List UInt8 := [28, 29, 96, 54, 4, 28, 54, 5, 21, 5, 21, 4, 162, 0, 19, 16, 31, 26, 104, 43, 21, 5, 53, 96]
abbrev dktJ17_hashCode_3_0 : List UInt8 := dkwJ17_hashCode_3_0 ++ dktJ17_hashCode_3_1
theorem dksJ17_hashCode_3_0 : cJ17_hashCode_3.data.toList.drop 0 = dktJ17_hashCode_3_0 := by decide +kernel
theorem dksJ17_hashCode_3_1 : cJ17_hashCode_3.data.toList.drop 24 = dktJ17_hashCode_3_1 := dk_seg dksJ17_hashCode_3_0 24 rfl rfl
theorem dJ17_hashCode_3_0 : decode cJ17_hashCode_3 0 = .ok (.iload_n 2, 1) := dk_28 (dk_at dksJ17_hashCode_3_0 0 rfl rfl)
theorem dJ17_hashCode_3_1 : decode cJ17_hashCode_3 1 = .ok (.iload_n 3, 1) := dk_29 (dk_at dksJ17_hashCode_3_0 1 rfl rfl)
theorem dJ17_hashCode_3_2 : decode cJ17_hashCode_3 2 = .ok (.iadd, 1) := dk_96 (dk_at dksJ17_hashCode_3_0 2 rfl rfl)
theorem dJ17_hashCode_3_3 : decode cJ17_hashCode_3 3 = .ok (.istore 4, 2) := dk_54 4 (dk_at dksJ17_hashCode_3_0 3 rfl rfl)
theorem dJ17_hashCode_3_5 : decode cJ17_hashCode_3 5 = .ok (.iload_n 2, 1) := dk_28 (dk_at dksJ17_hashCode_3_0 5 rfl rfl)
theorem dJ17_hashCode_3_6 : decode cJ17_hashCode_3 6 = .ok (.istore 5, 2) := dk_54 5 (dk_at dksJ17_hashCode_3_0 6 rfl rfl)
theorem dJ17_hashCode_3_8 : decode cJ17_hashCode_3 8 = .ok (.iload 5, 2) := dk_21 5 (dk_at dksJ17_hashCode_3_0 8 rfl rfl)
theorem dJ17_hashCode_3_10 : decode cJ17_hashCode_3 10 = .ok (.iload 4, 2) := dk_21 4 (dk_at dksJ17_hashCode_3_0 10 rfl rfl)
theorem dJ17_hashCode_3_12 : decode cJ17_hashCode_3 12 = .ok (.if_icmp .ge 19, 3) := dk_162 0 19 (dk_at dksJ17_hashCode_3_0 12 rfl rfl)
theorem dJ17_hashCode_3_15 : decode cJ17_hashCode_3 15 = .ok (.bipush 31, 2) := dk_16 31 (dk_at dksJ17_hashCode_3_0 15 rfl rfl)
theorem dJ17_hashCode_3_17 : decode cJ17_hashCode_3 17 = .ok (.iload_n 0, 1) := dk_26 (dk_at dksJ17_hashCode_3_0 17 rfl rfl)
theorem dJ17_hashCode_3_18 : decode cJ17_hashCode_3 18 = .ok (.imul, 1) := dk_104 (dk_at dksJ17_hashCode_3_0 18 rfl rfl)
theorem dJ17_hashCode_3_19 : decode cJ17_hashCode_3 19 = .ok (.aload_n 1, 1) := dk_43 (dk_at dksJ17_hashCode_3_0 19 rfl rfl)
theorem dJ17_hashCode_3_20 : decode cJ17_hashCode_3 20 = .ok (.iload 5, 2) := dk_21 5 (dk_at dksJ17_hashCode_3_0 20 rfl rfl)
theorem dJ17_hashCode_3_22 : decode cJ17_hashCode_3 22 = .ok (.saload, 1) := dk_53 (dk_at dksJ17_hashCode_3_0 22 rfl rfl)
theorem dJ17_hashCode_3_23 : decode cJ17_hashCode_3 23 = .ok (.iadd, 1) := dk_96 (dk_at dksJ17_hashCode_3_0 23 rfl rfl)
theorem dJ17_hashCode_3_24 : decode cJ17_hashCode_3 24 = .ok (.istore_n 0, 1) := dk_59 (dk_at dksJ17_hashCode_3_1 0 rfl rfl)
theorem dJ17_hashCode_3_25 : decode cJ17_hashCode_3 25 = .ok (.iinc 5 1, 3) := dk_132 5 1 (dk_at dksJ17_hashCode_3_1 1 rfl rfl)
theorem dJ17_hashCode_3_28 : decode cJ17_hashCode_3 28 = .ok (.goto (-20), 3) := dk_167 255 236 (dk_at dksJ17_hashCode_3_1 4 rfl rfl)
theorem dJ17_hashCode_3_31 : decode cJ17_hashCode_3 31 = .ok (.iload_n 0, 1) := dk_26 (dk_at dksJ17_hashCode_3_1 7 rfl rfl)
theorem dJ17_hashCode_3_32 : decode cJ17_hashCode_3 32 = .ok (.ireturn, 1) := dk_172 (dk_at dksJ17_hashCode_3_1 8 rfl rfl)
abbrev iJ17_hashCode_3 : xM := (yJ17_hashCode_3, cJ17_hashCode_3, 6, (some .int), [])
theorem mJ17_hashCode_3 : xOkM iJ17_hashCode_3 := ⟨by decide +kernel, by decide, q1434, q150⟩
abbrev cJ17_hashCode_4 : ByteArray := prog_93_method_9_code
def yJ17_hashCode_4 : MethodName := ⟨RJ17, "hashCode", "(I[III)I"⟩
def dkwJ17_hashCode_4_1 : List UInt8 := [59, 132, 5, 1, 167, 255, 236, 26, 172]
abbrev dktJ17_hashCode_4_1 : List UInt8 := dkwJ17_hashCode_4_1 ++ []
def dkwJ17_hashCode_4_0 : List UInt8 := [28, 29, 96, 54, 4, 28, 54, 5, 21, 5, 21, 4, 162, 0, 19, 16, 31, 26, 104, 43, 21, 5, 46, 96]
abbrev dktJ17_hashCode_4_0 : List UInt8 := dkwJ17_hashCode_4_0 ++ dktJ17_hashCode_4_1
theorem dksJ17_hashCode_4_0 : cJ17_hashCode_4.data.toList.drop 0 = dktJ17_hashCode_4_0 := by decide +kernel
theorem dksJ17_hashCode_4_1 : cJ17_hashCode_4.data.toList.drop 24 = dktJ17_hashCode_4_1 := dk_seg dksJ17_hashCode_4_0 24 rfl rfl
theorem dJ17_hashCode_4_0 : decode cJ17_hashCode_4 0 = .ok (.iload_n 2, 1) := dk_28 (dk_at dksJ17_hashCode_4_0 0 rfl rfl)
theorem dJ17_hashCode_4_1 : decode cJ17_hashCode_4 1 = .ok (.iload_n 3, 1) := dk_29 (dk_at dksJ17_hashCode_4_0 1 rfl rfl)
theorem dJ17_hashCode_4_2 : decode cJ17_hashCode_4 2 = .ok (.iadd, 1) := dk_96 (dk_at dksJ17_hashCode_4_0 2 rfl rfl)
theorem dJ17_hashCode_4_3 : decode cJ17_hashCode_4 3 = .ok (.istore 4, 2) := dk_54 4 (dk_at dksJ17_hashCode_4_0 3 rfl rfl)
theorem dJ17_hashCode_4_5 : decode cJ17_hashCode_4 5 = .ok (.iload_n 2, 1) := dk_28 (dk_at dksJ17_hashCode_4_0 5 rfl rfl)
theorem dJ17_hashCode_4_6 : decode cJ17_hashCode_4 6 = .ok (.istore 5, 2) := dk_54 5 (dk_at dksJ17_hashCode_4_0 6 rfl rfl)
theorem dJ17_hashCode_4_8 : decode cJ17_hashCode_4 8 = .ok (.iload 5, 2) := dk_21 5 (dk_at dksJ17_hashCode_4_0 8 rfl rfl)
theorem dJ17_hashCode_4_10 : decode cJ17_hashCode_4 10 = .ok (.iload 4, 2) := dk_21 4 (dk_at dksJ17_hashCode_4_0 10 rfl rfl)
theorem dJ17_hashCode_4_12 : decode cJ17_hashCode_4 12 = .ok (.if_icmp .ge 19, 3) := dk_162 0 19 (dk_at dksJ17_hashCode_4_0 12 rfl rfl)
theorem dJ17_hashCode_4_15 : decode cJ17_hashCode_4 15 = .ok (.bipush 31, 2) := dk_16 31 (dk_at dksJ17_hashCode_4_0 15 rfl rfl)
theorem dJ17_hashCode_4_17 : decode cJ17_hashCode_4 17 = .ok (.iload_n 0, 1) := dk_26 (dk_at dksJ17_hashCode_4_0 17 rfl rfl)
theorem dJ17_hashCode_4_18 : decode cJ17_hashCode_4 18 = .ok (.imul, 1) := dk_104 (dk_at dksJ17_hashCode_4_0 18 rfl rfl)
theorem dJ17_hashCode_4_19 : decode cJ17_hashCode_4 19 = .ok (.aload_n 1, 1) := dk_43 (dk_at dksJ17_hashCode_4_0 19 rfl rfl)
theorem dJ17_hashCode_4_20 : decode cJ17_hashCode_4 20 = .ok (.iload 5, 2) := dk_21 5 (dk_at dksJ17_hashCode_4_0 20 rfl rfl)
theorem dJ17_hashCode_4_22 : decode cJ17_hashCode_4 22 = .ok (.iaload, 1) := dk_46 (dk_at dksJ17_hashCode_4_0 22 rfl rfl)
theorem dJ17_hashCode_4_23 : decode cJ17_hashCode_4 23 = .ok (.iadd, 1) := dk_96 (dk_at dksJ17_hashCode_4_0 23 rfl rfl)
theorem dJ17_hashCode_4_24 : decode cJ17_hashCode_4 24 = .ok (.istore_n 0, 1) := dk_59 (dk_at dksJ17_hashCode_4_1 0 rfl rfl)
theorem dJ17_hashCode_4_25 : decode cJ17_hashCode_4 25 = .ok (.iinc 5 1, 3) := dk_132 5 1 (dk_at dksJ17_hashCode_4_1 1 rfl rfl)
theorem dJ17_hashCode_4_28 : decode cJ17_hashCode_4 28 = .ok (.goto (-20), 3) := dk_167 255 236 (dk_at dksJ17_hashCode_4_1 4 rfl rfl)
theorem dJ17_hashCode_4_31 : decode cJ17_hashCode_4 31 = .ok (.iload_n 0, 1) := dk_26 (dk_at dksJ17_hashCode_4_1 7 rfl rfl)
theorem dJ17_hashCode_4_32 : decode cJ17_hashCode_4 32 = .ok (.ireturn, 1) := dk_172 (dk_at dksJ17_hashCode_4_1 8 rfl rfl)
abbrev iJ17_hashCode_4 : xM := (yJ17_hashCode_4, cJ17_hashCode_4, 6, (some .int), [])
theorem mJ17_hashCode_4 : xOkM iJ17_hashCode_4 := ⟨by decide +kernel, by decide, q1438, q150⟩
abbrev cJ17_mismatch : ByteArray := prog_93_method_13_code
def yJ17_mismatch : MethodName := ⟨RJ17, "mismatch", "([B[BI)I"⟩
def dkwJ17_mismatch_3 : List UInt8 := [172]
abbrev dktJ17_mismatch_3 : List UInt8 := dkwJ17_mismatch_3 ++ []
def dkwJ17_mismatch_2 : List UInt8 := [62, 29, 28, 162, 0, 20, 42, 29, 51, 43, 29, 51, 159, 0, 5, 29, 172, 132, 3, 1, 167, 255, 237, 2]
abbrev dktJ17_mismatch_2 : List UInt8 := dkwJ17_mismatch_2 ++ dktJ17_mismatch_3
def dkwJ17_mismatch_1 : List UInt8 := [43, 178, 0, 126, 133, 28, 178, 0, 129, 184, 0, 122, 62, 29, 155, 0, 5, 29, 172, 28, 29, 2, 130, 100]
abbrev dktJ17_mismatch_1 : List UInt8 := dkwJ17_mismatch_1 ++ dktJ17_mismatch_2
def dkwJ17_mismatch_0 : List UInt8 := [3, 62, 28, 16, 7, 164, 0, 44, 42, 3, 51, 43, 3, 51, 159, 0, 5, 3, 172, 42, 178, 0, 126, 133]
abbrev dktJ17_mismatch_0 : List UInt8 := dkwJ17_mismatch_0 ++ dktJ17_mismatch_1
theorem dksJ17_mismatch_0 : cJ17_mismatch.data.toList.drop 0 = dktJ17_mismatch_0 := by decide +kernel
theorem dksJ17_mismatch_1 : cJ17_mismatch.data.toList.drop 24 = dktJ17_mismatch_1 := dk_seg dksJ17_mismatch_0 24 rfl rfl
theorem dksJ17_mismatch_2 : cJ17_mismatch.data.toList.drop 48 = dktJ17_mismatch_2 := dk_seg dksJ17_mismatch_1 24 rfl rfl
theorem dksJ17_mismatch_3 : cJ17_mismatch.data.toList.drop 72 = dktJ17_mismatch_3 := dk_seg dksJ17_mismatch_2 24 rfl rfl
theorem dJ17_mismatch_0 : decode cJ17_mismatch 0 = .ok (.iconst 0, 1) := dk_3 (dk_at dksJ17_mismatch_0 0 rfl rfl)
theorem dJ17_mismatch_1 : decode cJ17_mismatch 1 = .ok (.istore_n 3, 1) := dk_62 (dk_at dksJ17_mismatch_0 1 rfl rfl)
theorem dJ17_mismatch_2 : decode cJ17_mismatch 2 = .ok (.iload_n 2, 1) := dk_28 (dk_at dksJ17_mismatch_0 2 rfl rfl)
theorem dJ17_mismatch_3 : decode cJ17_mismatch 3 = .ok (.bipush 7, 2) := dk_16 7 (dk_at dksJ17_mismatch_0 3 rfl rfl)
theorem dJ17_mismatch_5 : decode cJ17_mismatch 5 = .ok (.if_icmp .le 44, 3) := dk_164 0 44 (dk_at dksJ17_mismatch_0 5 rfl rfl)
theorem dJ17_mismatch_8 : decode cJ17_mismatch 8 = .ok (.aload_n 0, 1) := dk_42 (dk_at dksJ17_mismatch_0 8 rfl rfl)
theorem dJ17_mismatch_9 : decode cJ17_mismatch 9 = .ok (.iconst 0, 1) := dk_3 (dk_at dksJ17_mismatch_0 9 rfl rfl)
theorem dJ17_mismatch_10 : decode cJ17_mismatch 10 = .ok (.baload, 1) := dk_51 (dk_at dksJ17_mismatch_0 10 rfl rfl)
theorem dJ17_mismatch_11 : decode cJ17_mismatch 11 = .ok (.aload_n 1, 1) := dk_43 (dk_at dksJ17_mismatch_0 11 rfl rfl)
theorem dJ17_mismatch_12 : decode cJ17_mismatch 12 = .ok (.iconst 0, 1) := dk_3 (dk_at dksJ17_mismatch_0 12 rfl rfl)
theorem dJ17_mismatch_13 : decode cJ17_mismatch 13 = .ok (.baload, 1) := dk_51 (dk_at dksJ17_mismatch_0 13 rfl rfl)
theorem dJ17_mismatch_14 : decode cJ17_mismatch 14 = .ok (.if_icmp .eq 5, 3) := dk_159 0 5 (dk_at dksJ17_mismatch_0 14 rfl rfl)
theorem dJ17_mismatch_17 : decode cJ17_mismatch 17 = .ok (.iconst 0, 1) := dk_3 (dk_at dksJ17_mismatch_0 17 rfl rfl)
theorem dJ17_mismatch_18 : decode cJ17_mismatch 18 = .ok (.ireturn, 1) := dk_172 (dk_at dksJ17_mismatch_0 18 rfl rfl)
theorem dJ17_mismatch_19 : decode cJ17_mismatch 19 = .ok (.aload_n 0, 1) := dk_42 (dk_at dksJ17_mismatch_0 19 rfl rfl)
theorem dJ17_mismatch_20 : decode cJ17_mismatch 20 = .ok (.getstatic 126, 3) := dk_178 0 126 (dk_at dksJ17_mismatch_0 20 rfl rfl)
theorem dJ17_mismatch_23 : decode cJ17_mismatch 23 = .ok (.i2l, 1) := dk_133 (dk_at dksJ17_mismatch_0 23 rfl rfl)
theorem dJ17_mismatch_24 : decode cJ17_mismatch 24 = .ok (.aload_n 1, 1) := dk_43 (dk_at dksJ17_mismatch_1 0 rfl rfl)
theorem dJ17_mismatch_25 : decode cJ17_mismatch 25 = .ok (.getstatic 126, 3) := dk_178 0 126 (dk_at dksJ17_mismatch_1 1 rfl rfl)
theorem dJ17_mismatch_28 : decode cJ17_mismatch 28 = .ok (.i2l, 1) := dk_133 (dk_at dksJ17_mismatch_1 4 rfl rfl)
theorem dJ17_mismatch_29 : decode cJ17_mismatch 29 = .ok (.iload_n 2, 1) := dk_28 (dk_at dksJ17_mismatch_1 5 rfl rfl)
theorem dJ17_mismatch_30 : decode cJ17_mismatch 30 = .ok (.getstatic 129, 3) := dk_178 0 129 (dk_at dksJ17_mismatch_1 6 rfl rfl)
theorem dJ17_mismatch_33 : decode cJ17_mismatch 33 = .ok (.invokestatic 122, 3) := dk_184 0 122 (dk_at dksJ17_mismatch_1 9 rfl rfl)
theorem dJ17_mismatch_36 : decode cJ17_mismatch 36 = .ok (.istore_n 3, 1) := dk_62 (dk_at dksJ17_mismatch_1 12 rfl rfl)
theorem dJ17_mismatch_37 : decode cJ17_mismatch 37 = .ok (.iload_n 3, 1) := dk_29 (dk_at dksJ17_mismatch_1 13 rfl rfl)
theorem dJ17_mismatch_38 : decode cJ17_mismatch 38 = .ok (.ifCond .lt 5, 3) := dk_155 0 5 (dk_at dksJ17_mismatch_1 14 rfl rfl)
theorem dJ17_mismatch_41 : decode cJ17_mismatch 41 = .ok (.iload_n 3, 1) := dk_29 (dk_at dksJ17_mismatch_1 17 rfl rfl)
theorem dJ17_mismatch_42 : decode cJ17_mismatch 42 = .ok (.ireturn, 1) := dk_172 (dk_at dksJ17_mismatch_1 18 rfl rfl)
theorem dJ17_mismatch_43 : decode cJ17_mismatch 43 = .ok (.iload_n 2, 1) := dk_28 (dk_at dksJ17_mismatch_1 19 rfl rfl)
theorem dJ17_mismatch_44 : decode cJ17_mismatch 44 = .ok (.iload_n 3, 1) := dk_29 (dk_at dksJ17_mismatch_1 20 rfl rfl)
theorem dJ17_mismatch_45 : decode cJ17_mismatch 45 = .ok (.iconst (-1), 1) := dk_2 (dk_at dksJ17_mismatch_1 21 rfl rfl)
theorem dJ17_mismatch_46 : decode cJ17_mismatch 46 = .ok (.ixor, 1) := dk_130 (dk_at dksJ17_mismatch_1 22 rfl rfl)
theorem dJ17_mismatch_47 : decode cJ17_mismatch 47 = .ok (.isub, 1) := dk_100 (dk_at dksJ17_mismatch_1 23 rfl rfl)
theorem dJ17_mismatch_48 : decode cJ17_mismatch 48 = .ok (.istore_n 3, 1) := dk_62 (dk_at dksJ17_mismatch_2 0 rfl rfl)
theorem dJ17_mismatch_49 : decode cJ17_mismatch 49 = .ok (.iload_n 3, 1) := dk_29 (dk_at dksJ17_mismatch_2 1 rfl rfl)
theorem dJ17_mismatch_50 : decode cJ17_mismatch 50 = .ok (.iload_n 2, 1) := dk_28 (dk_at dksJ17_mismatch_2 2 rfl rfl)
theorem dJ17_mismatch_51 : decode cJ17_mismatch 51 = .ok (.if_icmp .ge 20, 3) := dk_162 0 20 (dk_at dksJ17_mismatch_2 3 rfl rfl)
theorem dJ17_mismatch_54 : decode cJ17_mismatch 54 = .ok (.aload_n 0, 1) := dk_42 (dk_at dksJ17_mismatch_2 6 rfl rfl)
theorem dJ17_mismatch_55 : decode cJ17_mismatch 55 = .ok (.iload_n 3, 1) := dk_29 (dk_at dksJ17_mismatch_2 7 rfl rfl)
theorem dJ17_mismatch_56 : decode cJ17_mismatch 56 = .ok (.baload, 1) := dk_51 (dk_at dksJ17_mismatch_2 8 rfl rfl)
theorem dJ17_mismatch_57 : decode cJ17_mismatch 57 = .ok (.aload_n 1, 1) := dk_43 (dk_at dksJ17_mismatch_2 9 rfl rfl)
theorem dJ17_mismatch_58 : decode cJ17_mismatch 58 = .ok (.iload_n 3, 1) := dk_29 (dk_at dksJ17_mismatch_2 10 rfl rfl)
theorem dJ17_mismatch_59 : decode cJ17_mismatch 59 = .ok (.baload, 1) := dk_51 (dk_at dksJ17_mismatch_2 11 rfl rfl)
theorem dJ17_mismatch_60 : decode cJ17_mismatch 60 = .ok (.if_icmp .eq 5, 3) := dk_159 0 5 (dk_at dksJ17_mismatch_2 12 rfl rfl)
theorem dJ17_mismatch_63 : decode cJ17_mismatch 63 = .ok (.iload_n 3, 1) := dk_29 (dk_at dksJ17_mismatch_2 15 rfl rfl)
theorem dJ17_mismatch_64 : decode cJ17_mismatch 64 = .ok (.ireturn, 1) := dk_172 (dk_at dksJ17_mismatch_2 16 rfl rfl)
theorem dJ17_mismatch_65 : decode cJ17_mismatch 65 = .ok (.iinc 3 1, 3) := dk_132 3 1 (dk_at dksJ17_mismatch_2 17 rfl rfl)
theorem dJ17_mismatch_68 : decode cJ17_mismatch 68 = .ok (.goto (-19), 3) := dk_167 255 237 (dk_at dksJ17_mismatch_2 20 rfl rfl)
theorem dJ17_mismatch_71 : decode cJ17_mismatch 71 = .ok (.iconst (-1), 1) := dk_2 (dk_at dksJ17_mismatch_2 23 rfl rfl)
theorem dJ17_mismatch_72 : decode cJ17_mismatch 72 = .ok (.ireturn, 1) := dk_172 (dk_at dksJ17_mismatch_3 0 rfl rfl)
abbrev iJ17_mismatch : xM := (yJ17_mismatch, cJ17_mismatch, 4, (some .int), [])
theorem mJ17_mismatch : xOkM iJ17_mismatch := ⟨by decide +kernel, by decide, q1613, q150⟩
abbrev cJ17_vectorizedMismatch : ByteArray := prog_93_method_3_code
def yJ17_vectorizedMismatch : MethodName := ⟨RJ17, "vectorizedMismatch", "(Ljava/lang/Object;JLjava/lang/Object;JII)I"⟩
def dkwJ17_vectorizedMismatch_11 : List UInt8 := [54, 10, 21, 10, 2, 130, 172, 21, 10, 2, 130, 172]
abbrev dktJ17_vectorizedMismatch_11 : List UInt8 := dkwJ17_vectorizedMismatch_11 ++ []
def dkwJ17_vectorizedMismatch_10 : List UInt8 := [178, 0, 46, 21, 7, 96, 122, 54, 17, 21, 9, 21, 8, 120, 21, 17, 96, 172, 21, 10, 21, 11, 100]
abbrev dktJ17_vectorizedMismatch_10 : List UInt8 := dkwJ17_vectorizedMismatch_10 ++ dktJ17_vectorizedMismatch_11
def dkwJ17_vectorizedMismatch_9 : List UInt8 := [153, 0, 18, 21, 16, 184, 0, 58, 178, 0, 46, 21, 7, 96, 122, 167, 0, 15, 21, 16, 184, 0, 11]
abbrev dktJ17_vectorizedMismatch_9 : List UInt8 := dkwJ17_vectorizedMismatch_9 ++ dktJ17_vectorizedMismatch_10
def dkwJ17_vectorizedMismatch_8 : List UInt8 := [182, 0, 54, 54, 15, 21, 14, 21, 15, 159, 0, 54, 21, 14, 21, 15, 130, 54, 16, 178, 0, 36]
abbrev dktJ17_vectorizedMismatch_8 : List UInt8 := dkwJ17_vectorizedMismatch_8 ++ dktJ17_vectorizedMismatch_9
def dkwJ17_vectorizedMismatch_7 : List UInt8 := [55, 12, 178, 0, 26, 42, 31, 22, 12, 97, 182, 0, 54, 54, 14, 178, 0, 26, 45, 22, 4, 22, 12, 97]
abbrev dktJ17_vectorizedMismatch_7 : List UInt8 := dkwJ17_vectorizedMismatch_7 ++ dktJ17_vectorizedMismatch_8
def dkwJ17_vectorizedMismatch_6 : List UInt8 := [4, 178, 0, 51, 21, 7, 100, 120, 54, 11, 21, 10, 21, 11, 161, 0, 104, 21, 9, 133, 178, 0, 20, 121]
abbrev dktJ17_vectorizedMismatch_6 : List UInt8 := dkwJ17_vectorizedMismatch_6 ++ dktJ17_vectorizedMismatch_7
def dkwJ17_vectorizedMismatch_5 : List UInt8 := [132, 9, 1, 167, 255, 148, 21, 6, 21, 9, 21, 8, 120, 100, 54, 10, 21, 7, 178, 0, 51, 162, 0, 126]
abbrev dktJ17_vectorizedMismatch_5 : List UInt8 := dkwJ17_vectorizedMismatch_5 ++ dktJ17_vectorizedMismatch_6
def dkwJ17_vectorizedMismatch_4 : List UInt8 := [22, 16, 184, 0, 49, 178, 0, 46, 21, 7, 96, 122, 54, 18, 21, 9, 21, 8, 120, 21, 18, 96, 172]
abbrev dktJ17_vectorizedMismatch_4 : List UInt8 := dkwJ17_vectorizedMismatch_4 ++ dktJ17_vectorizedMismatch_5
def dkwJ17_vectorizedMismatch_3 : List UInt8 := [55, 16, 178, 0, 36, 153, 0, 18, 22, 16, 184, 0, 40, 178, 0, 46, 21, 7, 96, 122, 167, 0, 15]
abbrev dktJ17_vectorizedMismatch_3 : List UInt8 := dkwJ17_vectorizedMismatch_3 ++ dktJ17_vectorizedMismatch_4
def dkwJ17_vectorizedMismatch_2 : List UInt8 := [22, 4, 22, 10, 97, 182, 0, 30, 55, 14, 22, 12, 22, 14, 148, 153, 0, 54, 22, 12, 22, 14, 131]
abbrev dktJ17_vectorizedMismatch_2 : List UInt8 := dkwJ17_vectorizedMismatch_2 ++ dktJ17_vectorizedMismatch_3
def dkwJ17_vectorizedMismatch_1 : List UInt8 := [178, 0, 20, 121, 55, 10, 178, 0, 26, 42, 31, 22, 10, 97, 182, 0, 30, 55, 12, 178, 0, 26, 45]
abbrev dktJ17_vectorizedMismatch_1 : List UInt8 := dkwJ17_vectorizedMismatch_1 ++ dktJ17_vectorizedMismatch_2
def dkwJ17_vectorizedMismatch_0 : List UInt8 := [178, 0, 20, 21, 7, 100, 54, 8, 3, 54, 9, 21, 9, 21, 6, 21, 8, 122, 162, 0, 104, 21, 9, 133]
abbrev dktJ17_vectorizedMismatch_0 : List UInt8 := dkwJ17_vectorizedMismatch_0 ++ dktJ17_vectorizedMismatch_1
theorem dksJ17_vectorizedMismatch_0 : cJ17_vectorizedMismatch.data.toList.drop 0 = dktJ17_vectorizedMismatch_0 := by decide +kernel
theorem dksJ17_vectorizedMismatch_1 : cJ17_vectorizedMismatch.data.toList.drop 24 = dktJ17_vectorizedMismatch_1 := dk_seg dksJ17_vectorizedMismatch_0 24 rfl rfl
theorem dksJ17_vectorizedMismatch_2 : cJ17_vectorizedMismatch.data.toList.drop 47 = dktJ17_vectorizedMismatch_2 := dk_seg dksJ17_vectorizedMismatch_1 23 rfl rfl
theorem dksJ17_vectorizedMismatch_3 : cJ17_vectorizedMismatch.data.toList.drop 70 = dktJ17_vectorizedMismatch_3 := dk_seg dksJ17_vectorizedMismatch_2 23 rfl rfl
theorem dksJ17_vectorizedMismatch_4 : cJ17_vectorizedMismatch.data.toList.drop 93 = dktJ17_vectorizedMismatch_4 := dk_seg dksJ17_vectorizedMismatch_3 23 rfl rfl
theorem dksJ17_vectorizedMismatch_5 : cJ17_vectorizedMismatch.data.toList.drop 116 = dktJ17_vectorizedMismatch_5 := dk_seg dksJ17_vectorizedMismatch_4 23 rfl rfl
theorem dksJ17_vectorizedMismatch_6 : cJ17_vectorizedMismatch.data.toList.drop 140 = dktJ17_vectorizedMismatch_6 := dk_seg dksJ17_vectorizedMismatch_5 24 rfl rfl
theorem dksJ17_vectorizedMismatch_7 : cJ17_vectorizedMismatch.data.toList.drop 164 = dktJ17_vectorizedMismatch_7 := dk_seg dksJ17_vectorizedMismatch_6 24 rfl rfl
theorem dksJ17_vectorizedMismatch_8 : cJ17_vectorizedMismatch.data.toList.drop 188 = dktJ17_vectorizedMismatch_8 := dk_seg dksJ17_vectorizedMismatch_7 24 rfl rfl
theorem dksJ17_vectorizedMismatch_9 : cJ17_vectorizedMismatch.data.toList.drop 210 = dktJ17_vectorizedMismatch_9 := dk_seg dksJ17_vectorizedMismatch_8 22 rfl rfl
theorem dksJ17_vectorizedMismatch_10 : cJ17_vectorizedMismatch.data.toList.drop 233 = dktJ17_vectorizedMismatch_10 := dk_seg dksJ17_vectorizedMismatch_9 23 rfl rfl
theorem dksJ17_vectorizedMismatch_11 : cJ17_vectorizedMismatch.data.toList.drop 256 = dktJ17_vectorizedMismatch_11 := dk_seg dksJ17_vectorizedMismatch_10 23 rfl rfl
theorem dJ17_vectorizedMismatch_0 : decode cJ17_vectorizedMismatch 0 = .ok (.getstatic 20, 3) := dk_178 0 20 (dk_at dksJ17_vectorizedMismatch_0 0 rfl rfl)
theorem dJ17_vectorizedMismatch_3 : decode cJ17_vectorizedMismatch 3 = .ok (.iload 7, 2) := dk_21 7 (dk_at dksJ17_vectorizedMismatch_0 3 rfl rfl)
theorem dJ17_vectorizedMismatch_5 : decode cJ17_vectorizedMismatch 5 = .ok (.isub, 1) := dk_100 (dk_at dksJ17_vectorizedMismatch_0 5 rfl rfl)
theorem dJ17_vectorizedMismatch_6 : decode cJ17_vectorizedMismatch 6 = .ok (.istore 8, 2) := dk_54 8 (dk_at dksJ17_vectorizedMismatch_0 6 rfl rfl)
theorem dJ17_vectorizedMismatch_8 : decode cJ17_vectorizedMismatch 8 = .ok (.iconst 0, 1) := dk_3 (dk_at dksJ17_vectorizedMismatch_0 8 rfl rfl)
theorem dJ17_vectorizedMismatch_9 : decode cJ17_vectorizedMismatch 9 = .ok (.istore 9, 2) := dk_54 9 (dk_at dksJ17_vectorizedMismatch_0 9 rfl rfl)
theorem dJ17_vectorizedMismatch_11 : decode cJ17_vectorizedMismatch 11 = .ok (.iload 9, 2) := dk_21 9 (dk_at dksJ17_vectorizedMismatch_0 11 rfl rfl)
theorem dJ17_vectorizedMismatch_13 : decode cJ17_vectorizedMismatch 13 = .ok (.iload 6, 2) := dk_21 6 (dk_at dksJ17_vectorizedMismatch_0 13 rfl rfl)
theorem dJ17_vectorizedMismatch_15 : decode cJ17_vectorizedMismatch 15 = .ok (.iload 8, 2) := dk_21 8 (dk_at dksJ17_vectorizedMismatch_0 15 rfl rfl)
theorem dJ17_vectorizedMismatch_17 : decode cJ17_vectorizedMismatch 17 = .ok (.ishr, 1) := dk_122 (dk_at dksJ17_vectorizedMismatch_0 17 rfl rfl)
theorem dJ17_vectorizedMismatch_18 : decode cJ17_vectorizedMismatch 18 = .ok (.if_icmp .ge 104, 3) := dk_162 0 104 (dk_at dksJ17_vectorizedMismatch_0 18 rfl rfl)
theorem dJ17_vectorizedMismatch_21 : decode cJ17_vectorizedMismatch 21 = .ok (.iload 9, 2) := dk_21 9 (dk_at dksJ17_vectorizedMismatch_0 21 rfl rfl)
theorem dJ17_vectorizedMismatch_23 : decode cJ17_vectorizedMismatch 23 = .ok (.i2l, 1) := dk_133 (dk_at dksJ17_vectorizedMismatch_0 23 rfl rfl)
theorem dJ17_vectorizedMismatch_24 : decode cJ17_vectorizedMismatch 24 = .ok (.getstatic 20, 3) := dk_178 0 20 (dk_at dksJ17_vectorizedMismatch_1 0 rfl rfl)
theorem dJ17_vectorizedMismatch_27 : decode cJ17_vectorizedMismatch 27 = .ok (.lshl, 1) := dk_121 (dk_at dksJ17_vectorizedMismatch_1 3 rfl rfl)
theorem dJ17_vectorizedMismatch_28 : decode cJ17_vectorizedMismatch 28 = .ok (.lstore 10, 2) := dk_55 10 (dk_at dksJ17_vectorizedMismatch_1 4 rfl rfl)
theorem dJ17_vectorizedMismatch_30 : decode cJ17_vectorizedMismatch 30 = .ok (.getstatic 26, 3) := dk_178 0 26 (dk_at dksJ17_vectorizedMismatch_1 6 rfl rfl)
theorem dJ17_vectorizedMismatch_33 : decode cJ17_vectorizedMismatch 33 = .ok (.aload_n 0, 1) := dk_42 (dk_at dksJ17_vectorizedMismatch_1 9 rfl rfl)
theorem dJ17_vectorizedMismatch_34 : decode cJ17_vectorizedMismatch 34 = .ok (.lload_n 1, 1) := dk_31 (dk_at dksJ17_vectorizedMismatch_1 10 rfl rfl)
theorem dJ17_vectorizedMismatch_35 : decode cJ17_vectorizedMismatch 35 = .ok (.lload 10, 2) := dk_22 10 (dk_at dksJ17_vectorizedMismatch_1 11 rfl rfl)
theorem dJ17_vectorizedMismatch_37 : decode cJ17_vectorizedMismatch 37 = .ok (.ladd, 1) := dk_97 (dk_at dksJ17_vectorizedMismatch_1 13 rfl rfl)
theorem dJ17_vectorizedMismatch_38 : decode cJ17_vectorizedMismatch 38 = .ok (.invokevirtual 30, 3) := dk_182 0 30 (dk_at dksJ17_vectorizedMismatch_1 14 rfl rfl)
theorem dJ17_vectorizedMismatch_41 : decode cJ17_vectorizedMismatch 41 = .ok (.lstore 12, 2) := dk_55 12 (dk_at dksJ17_vectorizedMismatch_1 17 rfl rfl)
theorem dJ17_vectorizedMismatch_43 : decode cJ17_vectorizedMismatch 43 = .ok (.getstatic 26, 3) := dk_178 0 26 (dk_at dksJ17_vectorizedMismatch_1 19 rfl rfl)
theorem dJ17_vectorizedMismatch_46 : decode cJ17_vectorizedMismatch 46 = .ok (.aload_n 3, 1) := dk_45 (dk_at dksJ17_vectorizedMismatch_1 22 rfl rfl)
theorem dJ17_vectorizedMismatch_47 : decode cJ17_vectorizedMismatch 47 = .ok (.lload 4, 2) := dk_22 4 (dk_at dksJ17_vectorizedMismatch_2 0 rfl rfl)
theorem dJ17_vectorizedMismatch_49 : decode cJ17_vectorizedMismatch 49 = .ok (.lload 10, 2) := dk_22 10 (dk_at dksJ17_vectorizedMismatch_2 2 rfl rfl)
theorem dJ17_vectorizedMismatch_51 : decode cJ17_vectorizedMismatch 51 = .ok (.ladd, 1) := dk_97 (dk_at dksJ17_vectorizedMismatch_2 4 rfl rfl)
theorem dJ17_vectorizedMismatch_52 : decode cJ17_vectorizedMismatch 52 = .ok (.invokevirtual 30, 3) := dk_182 0 30 (dk_at dksJ17_vectorizedMismatch_2 5 rfl rfl)
theorem dJ17_vectorizedMismatch_55 : decode cJ17_vectorizedMismatch 55 = .ok (.lstore 14, 2) := dk_55 14 (dk_at dksJ17_vectorizedMismatch_2 8 rfl rfl)
theorem dJ17_vectorizedMismatch_57 : decode cJ17_vectorizedMismatch 57 = .ok (.lload 12, 2) := dk_22 12 (dk_at dksJ17_vectorizedMismatch_2 10 rfl rfl)
theorem dJ17_vectorizedMismatch_59 : decode cJ17_vectorizedMismatch 59 = .ok (.lload 14, 2) := dk_22 14 (dk_at dksJ17_vectorizedMismatch_2 12 rfl rfl)
theorem dJ17_vectorizedMismatch_61 : decode cJ17_vectorizedMismatch 61 = .ok (.lcmp, 1) := dk_148 (dk_at dksJ17_vectorizedMismatch_2 14 rfl rfl)
theorem dJ17_vectorizedMismatch_62 : decode cJ17_vectorizedMismatch 62 = .ok (.ifCond .eq 54, 3) := dk_153 0 54 (dk_at dksJ17_vectorizedMismatch_2 15 rfl rfl)
theorem dJ17_vectorizedMismatch_65 : decode cJ17_vectorizedMismatch 65 = .ok (.lload 12, 2) := dk_22 12 (dk_at dksJ17_vectorizedMismatch_2 18 rfl rfl)
theorem dJ17_vectorizedMismatch_67 : decode cJ17_vectorizedMismatch 67 = .ok (.lload 14, 2) := dk_22 14 (dk_at dksJ17_vectorizedMismatch_2 20 rfl rfl)
theorem dJ17_vectorizedMismatch_69 : decode cJ17_vectorizedMismatch 69 = .ok (.lxor, 1) := dk_131 (dk_at dksJ17_vectorizedMismatch_2 22 rfl rfl)
theorem dJ17_vectorizedMismatch_70 : decode cJ17_vectorizedMismatch 70 = .ok (.lstore 16, 2) := dk_55 16 (dk_at dksJ17_vectorizedMismatch_3 0 rfl rfl)
theorem dJ17_vectorizedMismatch_72 : decode cJ17_vectorizedMismatch 72 = .ok (.getstatic 36, 3) := dk_178 0 36 (dk_at dksJ17_vectorizedMismatch_3 2 rfl rfl)
theorem dJ17_vectorizedMismatch_75 : decode cJ17_vectorizedMismatch 75 = .ok (.ifCond .eq 18, 3) := dk_153 0 18 (dk_at dksJ17_vectorizedMismatch_3 5 rfl rfl)
theorem dJ17_vectorizedMismatch_78 : decode cJ17_vectorizedMismatch 78 = .ok (.lload 16, 2) := dk_22 16 (dk_at dksJ17_vectorizedMismatch_3 8 rfl rfl)
theorem dJ17_vectorizedMismatch_80 : decode cJ17_vectorizedMismatch 80 = .ok (.invokestatic 40, 3) := dk_184 0 40 (dk_at dksJ17_vectorizedMismatch_3 10 rfl rfl)
theorem dJ17_vectorizedMismatch_83 : decode cJ17_vectorizedMismatch 83 = .ok (.getstatic 46, 3) := dk_178 0 46 (dk_at dksJ17_vectorizedMismatch_3 13 rfl rfl)
theorem dJ17_vectorizedMismatch_86 : decode cJ17_vectorizedMismatch 86 = .ok (.iload 7, 2) := dk_21 7 (dk_at dksJ17_vectorizedMismatch_3 16 rfl rfl)
theorem dJ17_vectorizedMismatch_88 : decode cJ17_vectorizedMismatch 88 = .ok (.iadd, 1) := dk_96 (dk_at dksJ17_vectorizedMismatch_3 18 rfl rfl)
theorem dJ17_vectorizedMismatch_89 : decode cJ17_vectorizedMismatch 89 = .ok (.ishr, 1) := dk_122 (dk_at dksJ17_vectorizedMismatch_3 19 rfl rfl)
theorem dJ17_vectorizedMismatch_90 : decode cJ17_vectorizedMismatch 90 = .ok (.goto 15, 3) := dk_167 0 15 (dk_at dksJ17_vectorizedMismatch_3 20 rfl rfl)
theorem dJ17_vectorizedMismatch_93 : decode cJ17_vectorizedMismatch 93 = .ok (.lload 16, 2) := dk_22 16 (dk_at dksJ17_vectorizedMismatch_4 0 rfl rfl)
theorem dJ17_vectorizedMismatch_95 : decode cJ17_vectorizedMismatch 95 = .ok (.invokestatic 49, 3) := dk_184 0 49 (dk_at dksJ17_vectorizedMismatch_4 2 rfl rfl)
theorem dJ17_vectorizedMismatch_98 : decode cJ17_vectorizedMismatch 98 = .ok (.getstatic 46, 3) := dk_178 0 46 (dk_at dksJ17_vectorizedMismatch_4 5 rfl rfl)
theorem dJ17_vectorizedMismatch_101 : decode cJ17_vectorizedMismatch 101 = .ok (.iload 7, 2) := dk_21 7 (dk_at dksJ17_vectorizedMismatch_4 8 rfl rfl)
theorem dJ17_vectorizedMismatch_103 : decode cJ17_vectorizedMismatch 103 = .ok (.iadd, 1) := dk_96 (dk_at dksJ17_vectorizedMismatch_4 10 rfl rfl)
theorem dJ17_vectorizedMismatch_104 : decode cJ17_vectorizedMismatch 104 = .ok (.ishr, 1) := dk_122 (dk_at dksJ17_vectorizedMismatch_4 11 rfl rfl)
theorem dJ17_vectorizedMismatch_105 : decode cJ17_vectorizedMismatch 105 = .ok (.istore 18, 2) := dk_54 18 (dk_at dksJ17_vectorizedMismatch_4 12 rfl rfl)
theorem dJ17_vectorizedMismatch_107 : decode cJ17_vectorizedMismatch 107 = .ok (.iload 9, 2) := dk_21 9 (dk_at dksJ17_vectorizedMismatch_4 14 rfl rfl)
theorem dJ17_vectorizedMismatch_109 : decode cJ17_vectorizedMismatch 109 = .ok (.iload 8, 2) := dk_21 8 (dk_at dksJ17_vectorizedMismatch_4 16 rfl rfl)
theorem dJ17_vectorizedMismatch_111 : decode cJ17_vectorizedMismatch 111 = .ok (.ishl, 1) := dk_120 (dk_at dksJ17_vectorizedMismatch_4 18 rfl rfl)
theorem dJ17_vectorizedMismatch_112 : decode cJ17_vectorizedMismatch 112 = .ok (.iload 18, 2) := dk_21 18 (dk_at dksJ17_vectorizedMismatch_4 19 rfl rfl)
theorem dJ17_vectorizedMismatch_114 : decode cJ17_vectorizedMismatch 114 = .ok (.iadd, 1) := dk_96 (dk_at dksJ17_vectorizedMismatch_4 21 rfl rfl)
theorem dJ17_vectorizedMismatch_115 : decode cJ17_vectorizedMismatch 115 = .ok (.ireturn, 1) := dk_172 (dk_at dksJ17_vectorizedMismatch_4 22 rfl rfl)
theorem dJ17_vectorizedMismatch_116 : decode cJ17_vectorizedMismatch 116 = .ok (.iinc 9 1, 3) := dk_132 9 1 (dk_at dksJ17_vectorizedMismatch_5 0 rfl rfl)
theorem dJ17_vectorizedMismatch_119 : decode cJ17_vectorizedMismatch 119 = .ok (.goto (-108), 3) := dk_167 255 148 (dk_at dksJ17_vectorizedMismatch_5 3 rfl rfl)
theorem dJ17_vectorizedMismatch_122 : decode cJ17_vectorizedMismatch 122 = .ok (.iload 6, 2) := dk_21 6 (dk_at dksJ17_vectorizedMismatch_5 6 rfl rfl)
theorem dJ17_vectorizedMismatch_124 : decode cJ17_vectorizedMismatch 124 = .ok (.iload 9, 2) := dk_21 9 (dk_at dksJ17_vectorizedMismatch_5 8 rfl rfl)
theorem dJ17_vectorizedMismatch_126 : decode cJ17_vectorizedMismatch 126 = .ok (.iload 8, 2) := dk_21 8 (dk_at dksJ17_vectorizedMismatch_5 10 rfl rfl)
theorem dJ17_vectorizedMismatch_128 : decode cJ17_vectorizedMismatch 128 = .ok (.ishl, 1) := dk_120 (dk_at dksJ17_vectorizedMismatch_5 12 rfl rfl)
theorem dJ17_vectorizedMismatch_129 : decode cJ17_vectorizedMismatch 129 = .ok (.isub, 1) := dk_100 (dk_at dksJ17_vectorizedMismatch_5 13 rfl rfl)
theorem dJ17_vectorizedMismatch_130 : decode cJ17_vectorizedMismatch 130 = .ok (.istore 10, 2) := dk_54 10 (dk_at dksJ17_vectorizedMismatch_5 14 rfl rfl)
theorem dJ17_vectorizedMismatch_132 : decode cJ17_vectorizedMismatch 132 = .ok (.iload 7, 2) := dk_21 7 (dk_at dksJ17_vectorizedMismatch_5 16 rfl rfl)
theorem dJ17_vectorizedMismatch_134 : decode cJ17_vectorizedMismatch 134 = .ok (.getstatic 51, 3) := dk_178 0 51 (dk_at dksJ17_vectorizedMismatch_5 18 rfl rfl)
theorem dJ17_vectorizedMismatch_137 : decode cJ17_vectorizedMismatch 137 = .ok (.if_icmp .ge 126, 3) := dk_162 0 126 (dk_at dksJ17_vectorizedMismatch_5 21 rfl rfl)
theorem dJ17_vectorizedMismatch_140 : decode cJ17_vectorizedMismatch 140 = .ok (.iconst 1, 1) := dk_4 (dk_at dksJ17_vectorizedMismatch_6 0 rfl rfl)
theorem dJ17_vectorizedMismatch_141 : decode cJ17_vectorizedMismatch 141 = .ok (.getstatic 51, 3) := dk_178 0 51 (dk_at dksJ17_vectorizedMismatch_6 1 rfl rfl)
theorem dJ17_vectorizedMismatch_144 : decode cJ17_vectorizedMismatch 144 = .ok (.iload 7, 2) := dk_21 7 (dk_at dksJ17_vectorizedMismatch_6 4 rfl rfl)
theorem dJ17_vectorizedMismatch_146 : decode cJ17_vectorizedMismatch 146 = .ok (.isub, 1) := dk_100 (dk_at dksJ17_vectorizedMismatch_6 6 rfl rfl)
theorem dJ17_vectorizedMismatch_147 : decode cJ17_vectorizedMismatch 147 = .ok (.ishl, 1) := dk_120 (dk_at dksJ17_vectorizedMismatch_6 7 rfl rfl)
theorem dJ17_vectorizedMismatch_148 : decode cJ17_vectorizedMismatch 148 = .ok (.istore 11, 2) := dk_54 11 (dk_at dksJ17_vectorizedMismatch_6 8 rfl rfl)
theorem dJ17_vectorizedMismatch_150 : decode cJ17_vectorizedMismatch 150 = .ok (.iload 10, 2) := dk_21 10 (dk_at dksJ17_vectorizedMismatch_6 10 rfl rfl)
theorem dJ17_vectorizedMismatch_152 : decode cJ17_vectorizedMismatch 152 = .ok (.iload 11, 2) := dk_21 11 (dk_at dksJ17_vectorizedMismatch_6 12 rfl rfl)
theorem dJ17_vectorizedMismatch_154 : decode cJ17_vectorizedMismatch 154 = .ok (.if_icmp .lt 104, 3) := dk_161 0 104 (dk_at dksJ17_vectorizedMismatch_6 14 rfl rfl)
theorem dJ17_vectorizedMismatch_157 : decode cJ17_vectorizedMismatch 157 = .ok (.iload 9, 2) := dk_21 9 (dk_at dksJ17_vectorizedMismatch_6 17 rfl rfl)
theorem dJ17_vectorizedMismatch_159 : decode cJ17_vectorizedMismatch 159 = .ok (.i2l, 1) := dk_133 (dk_at dksJ17_vectorizedMismatch_6 19 rfl rfl)
theorem dJ17_vectorizedMismatch_160 : decode cJ17_vectorizedMismatch 160 = .ok (.getstatic 20, 3) := dk_178 0 20 (dk_at dksJ17_vectorizedMismatch_6 20 rfl rfl)
theorem dJ17_vectorizedMismatch_163 : decode cJ17_vectorizedMismatch 163 = .ok (.lshl, 1) := dk_121 (dk_at dksJ17_vectorizedMismatch_6 23 rfl rfl)
theorem dJ17_vectorizedMismatch_164 : decode cJ17_vectorizedMismatch 164 = .ok (.lstore 12, 2) := dk_55 12 (dk_at dksJ17_vectorizedMismatch_7 0 rfl rfl)
theorem dJ17_vectorizedMismatch_166 : decode cJ17_vectorizedMismatch 166 = .ok (.getstatic 26, 3) := dk_178 0 26 (dk_at dksJ17_vectorizedMismatch_7 2 rfl rfl)
theorem dJ17_vectorizedMismatch_169 : decode cJ17_vectorizedMismatch 169 = .ok (.aload_n 0, 1) := dk_42 (dk_at dksJ17_vectorizedMismatch_7 5 rfl rfl)
theorem dJ17_vectorizedMismatch_170 : decode cJ17_vectorizedMismatch 170 = .ok (.lload_n 1, 1) := dk_31 (dk_at dksJ17_vectorizedMismatch_7 6 rfl rfl)
theorem dJ17_vectorizedMismatch_171 : decode cJ17_vectorizedMismatch 171 = .ok (.lload 12, 2) := dk_22 12 (dk_at dksJ17_vectorizedMismatch_7 7 rfl rfl)
theorem dJ17_vectorizedMismatch_173 : decode cJ17_vectorizedMismatch 173 = .ok (.ladd, 1) := dk_97 (dk_at dksJ17_vectorizedMismatch_7 9 rfl rfl)
theorem dJ17_vectorizedMismatch_174 : decode cJ17_vectorizedMismatch 174 = .ok (.invokevirtual 54, 3) := dk_182 0 54 (dk_at dksJ17_vectorizedMismatch_7 10 rfl rfl)
theorem dJ17_vectorizedMismatch_177 : decode cJ17_vectorizedMismatch 177 = .ok (.istore 14, 2) := dk_54 14 (dk_at dksJ17_vectorizedMismatch_7 13 rfl rfl)
theorem dJ17_vectorizedMismatch_179 : decode cJ17_vectorizedMismatch 179 = .ok (.getstatic 26, 3) := dk_178 0 26 (dk_at dksJ17_vectorizedMismatch_7 15 rfl rfl)
theorem dJ17_vectorizedMismatch_182 : decode cJ17_vectorizedMismatch 182 = .ok (.aload_n 3, 1) := dk_45 (dk_at dksJ17_vectorizedMismatch_7 18 rfl rfl)
theorem dJ17_vectorizedMismatch_183 : decode cJ17_vectorizedMismatch 183 = .ok (.lload 4, 2) := dk_22 4 (dk_at dksJ17_vectorizedMismatch_7 19 rfl rfl)
theorem dJ17_vectorizedMismatch_185 : decode cJ17_vectorizedMismatch 185 = .ok (.lload 12, 2) := dk_22 12 (dk_at dksJ17_vectorizedMismatch_7 21 rfl rfl)
theorem dJ17_vectorizedMismatch_187 : decode cJ17_vectorizedMismatch 187 = .ok (.ladd, 1) := dk_97 (dk_at dksJ17_vectorizedMismatch_7 23 rfl rfl)
theorem dJ17_vectorizedMismatch_188 : decode cJ17_vectorizedMismatch 188 = .ok (.invokevirtual 54, 3) := dk_182 0 54 (dk_at dksJ17_vectorizedMismatch_8 0 rfl rfl)
theorem dJ17_vectorizedMismatch_191 : decode cJ17_vectorizedMismatch 191 = .ok (.istore 15, 2) := dk_54 15 (dk_at dksJ17_vectorizedMismatch_8 3 rfl rfl)
theorem dJ17_vectorizedMismatch_193 : decode cJ17_vectorizedMismatch 193 = .ok (.iload 14, 2) := dk_21 14 (dk_at dksJ17_vectorizedMismatch_8 5 rfl rfl)
theorem dJ17_vectorizedMismatch_195 : decode cJ17_vectorizedMismatch 195 = .ok (.iload 15, 2) := dk_21 15 (dk_at dksJ17_vectorizedMismatch_8 7 rfl rfl)
theorem dJ17_vectorizedMismatch_197 : decode cJ17_vectorizedMismatch 197 = .ok (.if_icmp .eq 54, 3) := dk_159 0 54 (dk_at dksJ17_vectorizedMismatch_8 9 rfl rfl)
theorem dJ17_vectorizedMismatch_200 : decode cJ17_vectorizedMismatch 200 = .ok (.iload 14, 2) := dk_21 14 (dk_at dksJ17_vectorizedMismatch_8 12 rfl rfl)
theorem dJ17_vectorizedMismatch_202 : decode cJ17_vectorizedMismatch 202 = .ok (.iload 15, 2) := dk_21 15 (dk_at dksJ17_vectorizedMismatch_8 14 rfl rfl)
theorem dJ17_vectorizedMismatch_204 : decode cJ17_vectorizedMismatch 204 = .ok (.ixor, 1) := dk_130 (dk_at dksJ17_vectorizedMismatch_8 16 rfl rfl)
theorem dJ17_vectorizedMismatch_205 : decode cJ17_vectorizedMismatch 205 = .ok (.istore 16, 2) := dk_54 16 (dk_at dksJ17_vectorizedMismatch_8 17 rfl rfl)
theorem dJ17_vectorizedMismatch_207 : decode cJ17_vectorizedMismatch 207 = .ok (.getstatic 36, 3) := dk_178 0 36 (dk_at dksJ17_vectorizedMismatch_8 19 rfl rfl)
theorem dJ17_vectorizedMismatch_210 : decode cJ17_vectorizedMismatch 210 = .ok (.ifCond .eq 18, 3) := dk_153 0 18 (dk_at dksJ17_vectorizedMismatch_9 0 rfl rfl)
theorem dJ17_vectorizedMismatch_213 : decode cJ17_vectorizedMismatch 213 = .ok (.iload 16, 2) := dk_21 16 (dk_at dksJ17_vectorizedMismatch_9 3 rfl rfl)
theorem dJ17_vectorizedMismatch_215 : decode cJ17_vectorizedMismatch 215 = .ok (.invokestatic 58, 3) := dk_184 0 58 (dk_at dksJ17_vectorizedMismatch_9 5 rfl rfl)
theorem dJ17_vectorizedMismatch_218 : decode cJ17_vectorizedMismatch 218 = .ok (.getstatic 46, 3) := dk_178 0 46 (dk_at dksJ17_vectorizedMismatch_9 8 rfl rfl)
theorem dJ17_vectorizedMismatch_221 : decode cJ17_vectorizedMismatch 221 = .ok (.iload 7, 2) := dk_21 7 (dk_at dksJ17_vectorizedMismatch_9 11 rfl rfl)
theorem dJ17_vectorizedMismatch_223 : decode cJ17_vectorizedMismatch 223 = .ok (.iadd, 1) := dk_96 (dk_at dksJ17_vectorizedMismatch_9 13 rfl rfl)
theorem dJ17_vectorizedMismatch_224 : decode cJ17_vectorizedMismatch 224 = .ok (.ishr, 1) := dk_122 (dk_at dksJ17_vectorizedMismatch_9 14 rfl rfl)
theorem dJ17_vectorizedMismatch_225 : decode cJ17_vectorizedMismatch 225 = .ok (.goto 15, 3) := dk_167 0 15 (dk_at dksJ17_vectorizedMismatch_9 15 rfl rfl)
theorem dJ17_vectorizedMismatch_228 : decode cJ17_vectorizedMismatch 228 = .ok (.iload 16, 2) := dk_21 16 (dk_at dksJ17_vectorizedMismatch_9 18 rfl rfl)
theorem dJ17_vectorizedMismatch_230 : decode cJ17_vectorizedMismatch 230 = .ok (.invokestatic 11, 3) := dk_184 0 11 (dk_at dksJ17_vectorizedMismatch_9 20 rfl rfl)
theorem dJ17_vectorizedMismatch_233 : decode cJ17_vectorizedMismatch 233 = .ok (.getstatic 46, 3) := dk_178 0 46 (dk_at dksJ17_vectorizedMismatch_10 0 rfl rfl)
theorem dJ17_vectorizedMismatch_236 : decode cJ17_vectorizedMismatch 236 = .ok (.iload 7, 2) := dk_21 7 (dk_at dksJ17_vectorizedMismatch_10 3 rfl rfl)
theorem dJ17_vectorizedMismatch_238 : decode cJ17_vectorizedMismatch 238 = .ok (.iadd, 1) := dk_96 (dk_at dksJ17_vectorizedMismatch_10 5 rfl rfl)
theorem dJ17_vectorizedMismatch_239 : decode cJ17_vectorizedMismatch 239 = .ok (.ishr, 1) := dk_122 (dk_at dksJ17_vectorizedMismatch_10 6 rfl rfl)
theorem dJ17_vectorizedMismatch_240 : decode cJ17_vectorizedMismatch 240 = .ok (.istore 17, 2) := dk_54 17 (dk_at dksJ17_vectorizedMismatch_10 7 rfl rfl)
theorem dJ17_vectorizedMismatch_242 : decode cJ17_vectorizedMismatch 242 = .ok (.iload 9, 2) := dk_21 9 (dk_at dksJ17_vectorizedMismatch_10 9 rfl rfl)
theorem dJ17_vectorizedMismatch_244 : decode cJ17_vectorizedMismatch 244 = .ok (.iload 8, 2) := dk_21 8 (dk_at dksJ17_vectorizedMismatch_10 11 rfl rfl)
theorem dJ17_vectorizedMismatch_246 : decode cJ17_vectorizedMismatch 246 = .ok (.ishl, 1) := dk_120 (dk_at dksJ17_vectorizedMismatch_10 13 rfl rfl)
theorem dJ17_vectorizedMismatch_247 : decode cJ17_vectorizedMismatch 247 = .ok (.iload 17, 2) := dk_21 17 (dk_at dksJ17_vectorizedMismatch_10 14 rfl rfl)
theorem dJ17_vectorizedMismatch_249 : decode cJ17_vectorizedMismatch 249 = .ok (.iadd, 1) := dk_96 (dk_at dksJ17_vectorizedMismatch_10 16 rfl rfl)
theorem dJ17_vectorizedMismatch_250 : decode cJ17_vectorizedMismatch 250 = .ok (.ireturn, 1) := dk_172 (dk_at dksJ17_vectorizedMismatch_10 17 rfl rfl)
theorem dJ17_vectorizedMismatch_251 : decode cJ17_vectorizedMismatch 251 = .ok (.iload 10, 2) := dk_21 10 (dk_at dksJ17_vectorizedMismatch_10 18 rfl rfl)
theorem dJ17_vectorizedMismatch_253 : decode cJ17_vectorizedMismatch 253 = .ok (.iload 11, 2) := dk_21 11 (dk_at dksJ17_vectorizedMismatch_10 20 rfl rfl)
theorem dJ17_vectorizedMismatch_255 : decode cJ17_vectorizedMismatch 255 = .ok (.isub, 1) := dk_100 (dk_at dksJ17_vectorizedMismatch_10 22 rfl rfl)
theorem dJ17_vectorizedMismatch_256 : decode cJ17_vectorizedMismatch 256 = .ok (.istore 10, 2) := dk_54 10 (dk_at dksJ17_vectorizedMismatch_11 0 rfl rfl)
theorem dJ17_vectorizedMismatch_258 : decode cJ17_vectorizedMismatch 258 = .ok (.iload 10, 2) := dk_21 10 (dk_at dksJ17_vectorizedMismatch_11 2 rfl rfl)
theorem dJ17_vectorizedMismatch_260 : decode cJ17_vectorizedMismatch 260 = .ok (.iconst (-1), 1) := dk_2 (dk_at dksJ17_vectorizedMismatch_11 4 rfl rfl)
theorem dJ17_vectorizedMismatch_261 : decode cJ17_vectorizedMismatch 261 = .ok (.ixor, 1) := dk_130 (dk_at dksJ17_vectorizedMismatch_11 5 rfl rfl)
theorem dJ17_vectorizedMismatch_262 : decode cJ17_vectorizedMismatch 262 = .ok (.ireturn, 1) := dk_172 (dk_at dksJ17_vectorizedMismatch_11 6 rfl rfl)
theorem dJ17_vectorizedMismatch_263 : decode cJ17_vectorizedMismatch 263 = .ok (.iload 10, 2) := dk_21 10 (dk_at dksJ17_vectorizedMismatch_11 7 rfl rfl)
theorem dJ17_vectorizedMismatch_265 : decode cJ17_vectorizedMismatch 265 = .ok (.iconst (-1), 1) := dk_2 (dk_at dksJ17_vectorizedMismatch_11 9 rfl rfl)
theorem dJ17_vectorizedMismatch_266 : decode cJ17_vectorizedMismatch 266 = .ok (.ixor, 1) := dk_130 (dk_at dksJ17_vectorizedMismatch_11 10 rfl rfl)
theorem dJ17_vectorizedMismatch_267 : decode cJ17_vectorizedMismatch 267 = .ok (.ireturn, 1) := dk_172 (dk_at dksJ17_vectorizedMismatch_11 11 rfl rfl)
abbrev iJ17_vectorizedMismatch : xM := (yJ17_vectorizedMismatch, cJ17_vectorizedMismatch, 19, (some .int), [])
theorem mJ17_vectorizedMismatch : xOkM iJ17_vectorizedMismatch := ⟨by decide +kernel, by decide, q1620, q150⟩
abbrev cJ18_max : ByteArray := prog_35_method_65_code
def yJ18_max : MethodName := ⟨RJ18, "max", "(II)I"⟩
def dkwJ18_max_0 : List UInt8 := [26, 27, 161, 0, 7, 26, 167, 0, 4, 27, 172]
abbrev dktJ18_max_0 : List UInt8 := dkwJ18_max_0 ++ []
theorem dksJ18_max_0 : cJ18_max.data.toList.drop 0 = dktJ18_max_0 := by decide +kernel
theorem dJ18_max_0 : decode cJ18_max 0 = .ok (.iload_n 0, 1) := dk_26 (dk_at dksJ18_max_0 0 rfl rfl)
theorem dJ18_max_1 : decode cJ18_max 1 = .ok (.iload_n 1, 1) := dk_27 (dk_at dksJ18_max_0 1 rfl rfl)
theorem dJ18_max_2 : decode cJ18_max 2 = .ok (.if_icmp .lt 7, 3) := dk_161 0 7 (dk_at dksJ18_max_0 2 rfl rfl)
theorem dJ18_max_5 : decode cJ18_max 5 = .ok (.iload_n 0, 1) := dk_26 (dk_at dksJ18_max_0 5 rfl rfl)
theorem dJ18_max_6 : decode cJ18_max 6 = .ok (.goto 4, 3) := dk_167 0 4 (dk_at dksJ18_max_0 6 rfl rfl)
theorem dJ18_max_9 : decode cJ18_max 9 = .ok (.iload_n 1, 1) := dk_27 (dk_at dksJ18_max_0 9 rfl rfl)
theorem dJ18_max_10 : decode cJ18_max 10 = .ok (.ireturn, 1) := dk_172 (dk_at dksJ18_max_0 10 rfl rfl)
abbrev iJ18_max : xM := (yJ18_max, cJ18_max, 2, (some .int), [])
theorem mJ18_max : xOkM iJ18_max := ⟨by decide +kernel, by decide, q433, q151⟩
abbrev cJ18_min : ByteArray := prog_35_method_69_code
def yJ18_min : MethodName := ⟨RJ18, "min", "(II)I"⟩
def dkwJ18_min_0 : List UInt8 := [26, 27, 163, 0, 7, 26, 167, 0, 4, 27, 172]
abbrev dktJ18_min_0 : List UInt8 := dkwJ18_min_0 ++ []
theorem dksJ18_min_0 : cJ18_min.data.toList.drop 0 = dktJ18_min_0 := by decide +kernel
theorem dJ18_min_0 : decode cJ18_min 0 = .ok (.iload_n 0, 1) := dk_26 (dk_at dksJ18_min_0 0 rfl rfl)
theorem dJ18_min_1 : decode cJ18_min 1 = .ok (.iload_n 1, 1) := dk_27 (dk_at dksJ18_min_0 1 rfl rfl)
theorem dJ18_min_2 : decode cJ18_min 2 = .ok (.if_icmp .gt 7, 3) := dk_163 0 7 (dk_at dksJ18_min_0 2 rfl rfl)
theorem dJ18_min_5 : decode cJ18_min 5 = .ok (.iload_n 0, 1) := dk_26 (dk_at dksJ18_min_0 5 rfl rfl)
theorem dJ18_min_6 : decode cJ18_min 6 = .ok (.goto 4, 3) := dk_167 0 4 (dk_at dksJ18_min_0 6 rfl rfl)
theorem dJ18_min_9 : decode cJ18_min 9 = .ok (.iload_n 1, 1) := dk_27 (dk_at dksJ18_min_0 9 rfl rfl)
theorem dJ18_min_10 : decode cJ18_min 10 = .ok (.ireturn, 1) := dk_172 (dk_at dksJ18_min_0 10 rfl rfl)
abbrev iJ18_min : xM := (yJ18_min, cJ18_min, 2, (some .int), [])
theorem mJ18_min : xOkM iJ18_min := ⟨by decide +kernel, by decide, q451, q151⟩
abbrev cJ18_multiplyHigh : ByteArray := prog_35_method_45_code
def yJ18_multiplyHigh : MethodName := ⟨RJ18, "multiplyHigh", "(JJ)J"⟩
def dkwJ18_multiplyHigh_3 : List UInt8 := [22, 4, 22, 8, 105, 22, 18, 97, 22, 16, 16, 32, 123, 97, 173]
abbrev dktJ18_multiplyHigh_3 : List UInt8 := dkwJ18_multiplyHigh_3 ++ []
def dkwJ18_multiplyHigh_2 : List UInt8 := [20, 0, 138, 127, 55, 16, 22, 14, 16, 32, 123, 55, 18, 22, 16, 22, 6, 22, 8, 105, 97, 55, 16]
abbrev dktJ18_multiplyHigh_2 : List UInt8 := dkwJ18_multiplyHigh_2 ++ dktJ18_multiplyHigh_3
def dkwJ18_multiplyHigh_1 : List UInt8 := [55, 10, 22, 6, 22, 10, 105, 55, 12, 22, 4, 22, 10, 105, 22, 12, 16, 32, 125, 97, 55, 14, 22, 14]
abbrev dktJ18_multiplyHigh_1 : List UInt8 := dkwJ18_multiplyHigh_1 ++ dktJ18_multiplyHigh_2
def dkwJ18_multiplyHigh_0 : List UInt8 := [30, 16, 32, 123, 55, 4, 30, 20, 0, 138, 127, 55, 6, 32, 16, 32, 123, 55, 8, 32, 20, 0, 138, 127]
abbrev dktJ18_multiplyHigh_0 : List UInt8 := dkwJ18_multiplyHigh_0 ++ dktJ18_multiplyHigh_1
theorem dksJ18_multiplyHigh_0 : cJ18_multiplyHigh.data.toList.drop 0 = dktJ18_multiplyHigh_0 := by decide +kernel
theorem dksJ18_multiplyHigh_1 : cJ18_multiplyHigh.data.toList.drop 24 = dktJ18_multiplyHigh_1 := dk_seg dksJ18_multiplyHigh_0 24 rfl rfl
theorem dksJ18_multiplyHigh_2 : cJ18_multiplyHigh.data.toList.drop 48 = dktJ18_multiplyHigh_2 := dk_seg dksJ18_multiplyHigh_1 24 rfl rfl
theorem dksJ18_multiplyHigh_3 : cJ18_multiplyHigh.data.toList.drop 71 = dktJ18_multiplyHigh_3 := dk_seg dksJ18_multiplyHigh_2 23 rfl rfl
theorem dJ18_multiplyHigh_0 : decode cJ18_multiplyHigh 0 = .ok (.lload_n 0, 1) := dk_30 (dk_at dksJ18_multiplyHigh_0 0 rfl rfl)
theorem dJ18_multiplyHigh_1 : decode cJ18_multiplyHigh 1 = .ok (.bipush 32, 2) := dk_16 32 (dk_at dksJ18_multiplyHigh_0 1 rfl rfl)
theorem dJ18_multiplyHigh_3 : decode cJ18_multiplyHigh 3 = .ok (.lshr, 1) := dk_123 (dk_at dksJ18_multiplyHigh_0 3 rfl rfl)
theorem dJ18_multiplyHigh_4 : decode cJ18_multiplyHigh 4 = .ok (.lstore 4, 2) := dk_55 4 (dk_at dksJ18_multiplyHigh_0 4 rfl rfl)
theorem dJ18_multiplyHigh_6 : decode cJ18_multiplyHigh 6 = .ok (.lload_n 0, 1) := dk_30 (dk_at dksJ18_multiplyHigh_0 6 rfl rfl)
theorem dJ18_multiplyHigh_7 : decode cJ18_multiplyHigh 7 = .ok (.ldc2_w 138, 3) := dk_20 0 138 (dk_at dksJ18_multiplyHigh_0 7 rfl rfl)
theorem dJ18_multiplyHigh_10 : decode cJ18_multiplyHigh 10 = .ok (.land, 1) := dk_127 (dk_at dksJ18_multiplyHigh_0 10 rfl rfl)
theorem dJ18_multiplyHigh_11 : decode cJ18_multiplyHigh 11 = .ok (.lstore 6, 2) := dk_55 6 (dk_at dksJ18_multiplyHigh_0 11 rfl rfl)
theorem dJ18_multiplyHigh_13 : decode cJ18_multiplyHigh 13 = .ok (.lload_n 2, 1) := dk_32 (dk_at dksJ18_multiplyHigh_0 13 rfl rfl)
theorem dJ18_multiplyHigh_14 : decode cJ18_multiplyHigh 14 = .ok (.bipush 32, 2) := dk_16 32 (dk_at dksJ18_multiplyHigh_0 14 rfl rfl)
theorem dJ18_multiplyHigh_16 : decode cJ18_multiplyHigh 16 = .ok (.lshr, 1) := dk_123 (dk_at dksJ18_multiplyHigh_0 16 rfl rfl)
theorem dJ18_multiplyHigh_17 : decode cJ18_multiplyHigh 17 = .ok (.lstore 8, 2) := dk_55 8 (dk_at dksJ18_multiplyHigh_0 17 rfl rfl)
theorem dJ18_multiplyHigh_19 : decode cJ18_multiplyHigh 19 = .ok (.lload_n 2, 1) := dk_32 (dk_at dksJ18_multiplyHigh_0 19 rfl rfl)
theorem dJ18_multiplyHigh_20 : decode cJ18_multiplyHigh 20 = .ok (.ldc2_w 138, 3) := dk_20 0 138 (dk_at dksJ18_multiplyHigh_0 20 rfl rfl)
theorem dJ18_multiplyHigh_23 : decode cJ18_multiplyHigh 23 = .ok (.land, 1) := dk_127 (dk_at dksJ18_multiplyHigh_0 23 rfl rfl)
theorem dJ18_multiplyHigh_24 : decode cJ18_multiplyHigh 24 = .ok (.lstore 10, 2) := dk_55 10 (dk_at dksJ18_multiplyHigh_1 0 rfl rfl)
theorem dJ18_multiplyHigh_26 : decode cJ18_multiplyHigh 26 = .ok (.lload 6, 2) := dk_22 6 (dk_at dksJ18_multiplyHigh_1 2 rfl rfl)
theorem dJ18_multiplyHigh_28 : decode cJ18_multiplyHigh 28 = .ok (.lload 10, 2) := dk_22 10 (dk_at dksJ18_multiplyHigh_1 4 rfl rfl)
theorem dJ18_multiplyHigh_30 : decode cJ18_multiplyHigh 30 = .ok (.lmul, 1) := dk_105 (dk_at dksJ18_multiplyHigh_1 6 rfl rfl)
theorem dJ18_multiplyHigh_31 : decode cJ18_multiplyHigh 31 = .ok (.lstore 12, 2) := dk_55 12 (dk_at dksJ18_multiplyHigh_1 7 rfl rfl)
theorem dJ18_multiplyHigh_33 : decode cJ18_multiplyHigh 33 = .ok (.lload 4, 2) := dk_22 4 (dk_at dksJ18_multiplyHigh_1 9 rfl rfl)
theorem dJ18_multiplyHigh_35 : decode cJ18_multiplyHigh 35 = .ok (.lload 10, 2) := dk_22 10 (dk_at dksJ18_multiplyHigh_1 11 rfl rfl)
theorem dJ18_multiplyHigh_37 : decode cJ18_multiplyHigh 37 = .ok (.lmul, 1) := dk_105 (dk_at dksJ18_multiplyHigh_1 13 rfl rfl)
theorem dJ18_multiplyHigh_38 : decode cJ18_multiplyHigh 38 = .ok (.lload 12, 2) := dk_22 12 (dk_at dksJ18_multiplyHigh_1 14 rfl rfl)
theorem dJ18_multiplyHigh_40 : decode cJ18_multiplyHigh 40 = .ok (.bipush 32, 2) := dk_16 32 (dk_at dksJ18_multiplyHigh_1 16 rfl rfl)
theorem dJ18_multiplyHigh_42 : decode cJ18_multiplyHigh 42 = .ok (.lushr, 1) := dk_125 (dk_at dksJ18_multiplyHigh_1 18 rfl rfl)
theorem dJ18_multiplyHigh_43 : decode cJ18_multiplyHigh 43 = .ok (.ladd, 1) := dk_97 (dk_at dksJ18_multiplyHigh_1 19 rfl rfl)
theorem dJ18_multiplyHigh_44 : decode cJ18_multiplyHigh 44 = .ok (.lstore 14, 2) := dk_55 14 (dk_at dksJ18_multiplyHigh_1 20 rfl rfl)
theorem dJ18_multiplyHigh_46 : decode cJ18_multiplyHigh 46 = .ok (.lload 14, 2) := dk_22 14 (dk_at dksJ18_multiplyHigh_1 22 rfl rfl)
theorem dJ18_multiplyHigh_48 : decode cJ18_multiplyHigh 48 = .ok (.ldc2_w 138, 3) := dk_20 0 138 (dk_at dksJ18_multiplyHigh_2 0 rfl rfl)
theorem dJ18_multiplyHigh_51 : decode cJ18_multiplyHigh 51 = .ok (.land, 1) := dk_127 (dk_at dksJ18_multiplyHigh_2 3 rfl rfl)
theorem dJ18_multiplyHigh_52 : decode cJ18_multiplyHigh 52 = .ok (.lstore 16, 2) := dk_55 16 (dk_at dksJ18_multiplyHigh_2 4 rfl rfl)
theorem dJ18_multiplyHigh_54 : decode cJ18_multiplyHigh 54 = .ok (.lload 14, 2) := dk_22 14 (dk_at dksJ18_multiplyHigh_2 6 rfl rfl)
theorem dJ18_multiplyHigh_56 : decode cJ18_multiplyHigh 56 = .ok (.bipush 32, 2) := dk_16 32 (dk_at dksJ18_multiplyHigh_2 8 rfl rfl)
theorem dJ18_multiplyHigh_58 : decode cJ18_multiplyHigh 58 = .ok (.lshr, 1) := dk_123 (dk_at dksJ18_multiplyHigh_2 10 rfl rfl)
theorem dJ18_multiplyHigh_59 : decode cJ18_multiplyHigh 59 = .ok (.lstore 18, 2) := dk_55 18 (dk_at dksJ18_multiplyHigh_2 11 rfl rfl)
theorem dJ18_multiplyHigh_61 : decode cJ18_multiplyHigh 61 = .ok (.lload 16, 2) := dk_22 16 (dk_at dksJ18_multiplyHigh_2 13 rfl rfl)
theorem dJ18_multiplyHigh_63 : decode cJ18_multiplyHigh 63 = .ok (.lload 6, 2) := dk_22 6 (dk_at dksJ18_multiplyHigh_2 15 rfl rfl)
theorem dJ18_multiplyHigh_65 : decode cJ18_multiplyHigh 65 = .ok (.lload 8, 2) := dk_22 8 (dk_at dksJ18_multiplyHigh_2 17 rfl rfl)
theorem dJ18_multiplyHigh_67 : decode cJ18_multiplyHigh 67 = .ok (.lmul, 1) := dk_105 (dk_at dksJ18_multiplyHigh_2 19 rfl rfl)
theorem dJ18_multiplyHigh_68 : decode cJ18_multiplyHigh 68 = .ok (.ladd, 1) := dk_97 (dk_at dksJ18_multiplyHigh_2 20 rfl rfl)
theorem dJ18_multiplyHigh_69 : decode cJ18_multiplyHigh 69 = .ok (.lstore 16, 2) := dk_55 16 (dk_at dksJ18_multiplyHigh_2 21 rfl rfl)
theorem dJ18_multiplyHigh_71 : decode cJ18_multiplyHigh 71 = .ok (.lload 4, 2) := dk_22 4 (dk_at dksJ18_multiplyHigh_3 0 rfl rfl)
theorem dJ18_multiplyHigh_73 : decode cJ18_multiplyHigh 73 = .ok (.lload 8, 2) := dk_22 8 (dk_at dksJ18_multiplyHigh_3 2 rfl rfl)
theorem dJ18_multiplyHigh_75 : decode cJ18_multiplyHigh 75 = .ok (.lmul, 1) := dk_105 (dk_at dksJ18_multiplyHigh_3 4 rfl rfl)
theorem dJ18_multiplyHigh_76 : decode cJ18_multiplyHigh 76 = .ok (.lload 18, 2) := dk_22 18 (dk_at dksJ18_multiplyHigh_3 5 rfl rfl)
theorem dJ18_multiplyHigh_78 : decode cJ18_multiplyHigh 78 = .ok (.ladd, 1) := dk_97 (dk_at dksJ18_multiplyHigh_3 7 rfl rfl)
theorem dJ18_multiplyHigh_79 : decode cJ18_multiplyHigh 79 = .ok (.lload 16, 2) := dk_22 16 (dk_at dksJ18_multiplyHigh_3 8 rfl rfl)
theorem dJ18_multiplyHigh_81 : decode cJ18_multiplyHigh 81 = .ok (.bipush 32, 2) := dk_16 32 (dk_at dksJ18_multiplyHigh_3 10 rfl rfl)
theorem dJ18_multiplyHigh_83 : decode cJ18_multiplyHigh 83 = .ok (.lshr, 1) := dk_123 (dk_at dksJ18_multiplyHigh_3 12 rfl rfl)
theorem dJ18_multiplyHigh_84 : decode cJ18_multiplyHigh 84 = .ok (.ladd, 1) := dk_97 (dk_at dksJ18_multiplyHigh_3 13 rfl rfl)
theorem dJ18_multiplyHigh_85 : decode cJ18_multiplyHigh 85 = .ok (.lreturn, 1) := dk_173 (dk_at dksJ18_multiplyHigh_3 14 rfl rfl)
abbrev iJ18_multiplyHigh : xM := (yJ18_multiplyHigh, cJ18_multiplyHigh, 20, (some .long), [])
theorem mJ18_multiplyHigh : xOkM iJ18_multiplyHigh := ⟨by decide +kernel, by decide, q728, q151⟩
abbrev cJ18_abs : ByteArray := prog_35_method_59_code
def yJ18_abs : MethodName := ⟨RJ18, "abs", "(I)I"⟩
def dkwJ18_abs_0 : List UInt8 := [26, 156, 0, 8, 26, 116, 167, 0, 4, 26, 172]
abbrev dktJ18_abs_0 : List UInt8 := dkwJ18_abs_0 ++ []
theorem dksJ18_abs_0 : cJ18_abs.data.toList.drop 0 = dktJ18_abs_0 := by decide +kernel
theorem dJ18_abs_0 : decode cJ18_abs 0 = .ok (.iload_n 0, 1) := dk_26 (dk_at dksJ18_abs_0 0 rfl rfl)
theorem dJ18_abs_1 : decode cJ18_abs 1 = .ok (.ifCond .ge 8, 3) := dk_156 0 8 (dk_at dksJ18_abs_0 1 rfl rfl)
theorem dJ18_abs_4 : decode cJ18_abs 4 = .ok (.iload_n 0, 1) := dk_26 (dk_at dksJ18_abs_0 4 rfl rfl)
theorem dJ18_abs_5 : decode cJ18_abs 5 = .ok (.ineg, 1) := dk_116 (dk_at dksJ18_abs_0 5 rfl rfl)
theorem dJ18_abs_6 : decode cJ18_abs 6 = .ok (.goto 4, 3) := dk_167 0 4 (dk_at dksJ18_abs_0 6 rfl rfl)
theorem dJ18_abs_9 : decode cJ18_abs 9 = .ok (.iload_n 0, 1) := dk_26 (dk_at dksJ18_abs_0 9 rfl rfl)
theorem dJ18_abs_10 : decode cJ18_abs 10 = .ok (.ireturn, 1) := dk_172 (dk_at dksJ18_abs_0 10 rfl rfl)
abbrev iJ18_abs : xM := (yJ18_abs, cJ18_abs, 1, (some .int), [])
theorem mJ18_abs : xOkM iJ18_abs := ⟨by decide +kernel, by decide, q2688, q151⟩
abbrev cJ19_copyOf : ByteArray := prog_57_method_121_code
def yJ19_copyOf : MethodName := ⟨RJ19, "copyOf", "([BI)[B"⟩
def dkwJ19_copyOf_1 : List UInt8 := [27, 184, 1, 48, 184, 0, 150, 44, 176]
abbrev dktJ19_copyOf_1 : List UInt8 := dkwJ19_copyOf_1 ++ []
def dkwJ19_copyOf_0 : List UInt8 := [27, 42, 190, 160, 0, 11, 42, 182, 1, 54, 192, 1, 55, 176, 27, 188, 8, 77, 42, 3, 44, 3, 42, 190]
abbrev dktJ19_copyOf_0 : List UInt8 := dkwJ19_copyOf_0 ++ dktJ19_copyOf_1
theorem dksJ19_copyOf_0 : cJ19_copyOf.data.toList.drop 0 = dktJ19_copyOf_0 := by decide +kernel
theorem dksJ19_copyOf_1 : cJ19_copyOf.data.toList.drop 24 = dktJ19_copyOf_1 := dk_seg dksJ19_copyOf_0 24 rfl rfl
theorem dJ19_copyOf_0 : decode cJ19_copyOf 0 = .ok (.iload_n 1, 1) := dk_27 (dk_at dksJ19_copyOf_0 0 rfl rfl)
theorem dJ19_copyOf_1 : decode cJ19_copyOf 1 = .ok (.aload_n 0, 1) := dk_42 (dk_at dksJ19_copyOf_0 1 rfl rfl)
theorem dJ19_copyOf_2 : decode cJ19_copyOf 2 = .ok (.arraylength, 1) := dk_190 (dk_at dksJ19_copyOf_0 2 rfl rfl)
theorem dJ19_copyOf_3 : decode cJ19_copyOf 3 = .ok (.if_icmp .ne 11, 3) := dk_160 0 11 (dk_at dksJ19_copyOf_0 3 rfl rfl)
theorem dJ19_copyOf_6 : decode cJ19_copyOf 6 = .ok (.aload_n 0, 1) := dk_42 (dk_at dksJ19_copyOf_0 6 rfl rfl)
theorem dJ19_copyOf_7 : decode cJ19_copyOf 7 = .ok (.invokevirtual 310, 3) := dk_182 1 54 (dk_at dksJ19_copyOf_0 7 rfl rfl)
theorem dJ19_copyOf_10 : decode cJ19_copyOf 10 = .ok (.checkcast 311, 3) := dk_192 1 55 (dk_at dksJ19_copyOf_0 10 rfl rfl)
theorem dJ19_copyOf_13 : decode cJ19_copyOf 13 = .ok (.areturn, 1) := dk_176 (dk_at dksJ19_copyOf_0 13 rfl rfl)
theorem dJ19_copyOf_14 : decode cJ19_copyOf 14 = .ok (.iload_n 1, 1) := dk_27 (dk_at dksJ19_copyOf_0 14 rfl rfl)
theorem dJ19_copyOf_15 : decode cJ19_copyOf 15 = .ok (.newarray .byte, 2) := dk_188_8 (dk_at dksJ19_copyOf_0 15 rfl rfl)
theorem dJ19_copyOf_17 : decode cJ19_copyOf 17 = .ok (.astore_n 2, 1) := dk_77 (dk_at dksJ19_copyOf_0 17 rfl rfl)
theorem dJ19_copyOf_18 : decode cJ19_copyOf 18 = .ok (.aload_n 0, 1) := dk_42 (dk_at dksJ19_copyOf_0 18 rfl rfl)
theorem dJ19_copyOf_19 : decode cJ19_copyOf 19 = .ok (.iconst 0, 1) := dk_3 (dk_at dksJ19_copyOf_0 19 rfl rfl)
theorem dJ19_copyOf_20 : decode cJ19_copyOf 20 = .ok (.aload_n 2, 1) := dk_44 (dk_at dksJ19_copyOf_0 20 rfl rfl)
theorem dJ19_copyOf_21 : decode cJ19_copyOf 21 = .ok (.iconst 0, 1) := dk_3 (dk_at dksJ19_copyOf_0 21 rfl rfl)
theorem dJ19_copyOf_22 : decode cJ19_copyOf 22 = .ok (.aload_n 0, 1) := dk_42 (dk_at dksJ19_copyOf_0 22 rfl rfl)
theorem dJ19_copyOf_23 : decode cJ19_copyOf 23 = .ok (.arraylength, 1) := dk_190 (dk_at dksJ19_copyOf_0 23 rfl rfl)
theorem dJ19_copyOf_24 : decode cJ19_copyOf 24 = .ok (.iload_n 1, 1) := dk_27 (dk_at dksJ19_copyOf_1 0 rfl rfl)
theorem dJ19_copyOf_25 : decode cJ19_copyOf 25 = .ok (.invokestatic 304, 3) := dk_184 1 48 (dk_at dksJ19_copyOf_1 1 rfl rfl)
theorem dJ19_copyOf_28 : decode cJ19_copyOf 28 = .ok (.invokestatic 150, 3) := dk_184 0 150 (dk_at dksJ19_copyOf_1 4 rfl rfl)
theorem dJ19_copyOf_31 : decode cJ19_copyOf 31 = .ok (.aload_n 2, 1) := dk_44 (dk_at dksJ19_copyOf_1 7 rfl rfl)
theorem dJ19_copyOf_32 : decode cJ19_copyOf 32 = .ok (.areturn, 1) := dk_176 (dk_at dksJ19_copyOf_1 8 rfl rfl)
abbrev iJ19_copyOf : xM := (yJ19_copyOf, cJ19_copyOf, 3, (some (.array .byte)), [])
theorem mJ19_copyOf : xOkM iJ19_copyOf := ⟨by decide +kernel, by decide, q441, q152⟩
abbrev cJ19_copyOfRange : ByteArray := prog_57_method_132_code
def yJ19_copyOfRange : MethodName := ⟨RJ19, "copyOfRange", "([BII)[B"⟩
def dkwJ19_copyOfRange_1 : List UInt8 := [176]
abbrev dktJ19_copyOfRange_1 : List UInt8 := dkwJ19_copyOfRange_1 ++ []
def dkwJ19_copyOfRange_0 : List UInt8 := [27, 154, 0, 9, 28, 42, 190, 159, 0, 10, 42, 27, 28, 184, 1, 83, 176, 42, 182, 1, 54, 192, 1, 55]
abbrev dktJ19_copyOfRange_0 : List UInt8 := dkwJ19_copyOfRange_0 ++ dktJ19_copyOfRange_1
theorem dksJ19_copyOfRange_0 : cJ19_copyOfRange.data.toList.drop 0 = dktJ19_copyOfRange_0 := by decide +kernel
theorem dksJ19_copyOfRange_1 : cJ19_copyOfRange.data.toList.drop 24 = dktJ19_copyOfRange_1 := dk_seg dksJ19_copyOfRange_0 24 rfl rfl
theorem dJ19_copyOfRange_0 : decode cJ19_copyOfRange 0 = .ok (.iload_n 1, 1) := dk_27 (dk_at dksJ19_copyOfRange_0 0 rfl rfl)
theorem dJ19_copyOfRange_1 : decode cJ19_copyOfRange 1 = .ok (.ifCond .ne 9, 3) := dk_154 0 9 (dk_at dksJ19_copyOfRange_0 1 rfl rfl)
theorem dJ19_copyOfRange_4 : decode cJ19_copyOfRange 4 = .ok (.iload_n 2, 1) := dk_28 (dk_at dksJ19_copyOfRange_0 4 rfl rfl)
theorem dJ19_copyOfRange_5 : decode cJ19_copyOfRange 5 = .ok (.aload_n 0, 1) := dk_42 (dk_at dksJ19_copyOfRange_0 5 rfl rfl)
theorem dJ19_copyOfRange_6 : decode cJ19_copyOfRange 6 = .ok (.arraylength, 1) := dk_190 (dk_at dksJ19_copyOfRange_0 6 rfl rfl)
theorem dJ19_copyOfRange_7 : decode cJ19_copyOfRange 7 = .ok (.if_icmp .eq 10, 3) := dk_159 0 10 (dk_at dksJ19_copyOfRange_0 7 rfl rfl)
theorem dJ19_copyOfRange_10 : decode cJ19_copyOfRange 10 = .ok (.aload_n 0, 1) := dk_42 (dk_at dksJ19_copyOfRange_0 10 rfl rfl)
theorem dJ19_copyOfRange_11 : decode cJ19_copyOfRange 11 = .ok (.iload_n 1, 1) := dk_27 (dk_at dksJ19_copyOfRange_0 11 rfl rfl)
theorem dJ19_copyOfRange_12 : decode cJ19_copyOfRange 12 = .ok (.iload_n 2, 1) := dk_28 (dk_at dksJ19_copyOfRange_0 12 rfl rfl)
theorem dJ19_copyOfRange_13 : decode cJ19_copyOfRange 13 = .ok (.invokestatic 339, 3) := dk_184 1 83 (dk_at dksJ19_copyOfRange_0 13 rfl rfl)
theorem dJ19_copyOfRange_16 : decode cJ19_copyOfRange 16 = .ok (.areturn, 1) := dk_176 (dk_at dksJ19_copyOfRange_0 16 rfl rfl)
theorem dJ19_copyOfRange_17 : decode cJ19_copyOfRange 17 = .ok (.aload_n 0, 1) := dk_42 (dk_at dksJ19_copyOfRange_0 17 rfl rfl)
theorem dJ19_copyOfRange_18 : decode cJ19_copyOfRange 18 = .ok (.invokevirtual 310, 3) := dk_182 1 54 (dk_at dksJ19_copyOfRange_0 18 rfl rfl)
theorem dJ19_copyOfRange_21 : decode cJ19_copyOfRange 21 = .ok (.checkcast 311, 3) := dk_192 1 55 (dk_at dksJ19_copyOfRange_0 21 rfl rfl)
theorem dJ19_copyOfRange_24 : decode cJ19_copyOfRange 24 = .ok (.areturn, 1) := dk_176 (dk_at dksJ19_copyOfRange_1 0 rfl rfl)
abbrev iJ19_copyOfRange : xM := (yJ19_copyOfRange, cJ19_copyOfRange, 3, (some (.array .byte)), [])
theorem mJ19_copyOfRange : xOkM iJ19_copyOfRange := ⟨by decide +kernel, by decide, q583, q152⟩
abbrev cJ19_copyOfRangeByte : ByteArray := prog_57_method_133_code
def yJ19_copyOfRangeByte : MethodName := ⟨RJ19, "copyOfRangeByte", "([BII)[B"⟩
def dkwJ19_copyOfRangeByte_1 : List UInt8 := [184, 1, 48, 184, 0, 150, 25, 4, 176]
abbrev dktJ19_copyOfRangeByte_1 : List UInt8 := dkwJ19_copyOfRangeByte_1 ++ []
def dkwJ19_copyOfRangeByte_0 : List UInt8 := [27, 28, 184, 1, 87, 28, 27, 100, 62, 29, 188, 8, 58, 4, 42, 27, 25, 4, 3, 42, 190, 27, 100, 29]
abbrev dktJ19_copyOfRangeByte_0 : List UInt8 := dkwJ19_copyOfRangeByte_0 ++ dktJ19_copyOfRangeByte_1
theorem dksJ19_copyOfRangeByte_0 : cJ19_copyOfRangeByte.data.toList.drop 0 = dktJ19_copyOfRangeByte_0 := by decide +kernel
theorem dksJ19_copyOfRangeByte_1 : cJ19_copyOfRangeByte.data.toList.drop 24 = dktJ19_copyOfRangeByte_1 := dk_seg dksJ19_copyOfRangeByte_0 24 rfl rfl
theorem dJ19_copyOfRangeByte_0 : decode cJ19_copyOfRangeByte 0 = .ok (.iload_n 1, 1) := dk_27 (dk_at dksJ19_copyOfRangeByte_0 0 rfl rfl)
theorem dJ19_copyOfRangeByte_1 : decode cJ19_copyOfRangeByte 1 = .ok (.iload_n 2, 1) := dk_28 (dk_at dksJ19_copyOfRangeByte_0 1 rfl rfl)
theorem dJ19_copyOfRangeByte_2 : decode cJ19_copyOfRangeByte 2 = .ok (.invokestatic 343, 3) := dk_184 1 87 (dk_at dksJ19_copyOfRangeByte_0 2 rfl rfl)
theorem dJ19_copyOfRangeByte_5 : decode cJ19_copyOfRangeByte 5 = .ok (.iload_n 2, 1) := dk_28 (dk_at dksJ19_copyOfRangeByte_0 5 rfl rfl)
theorem dJ19_copyOfRangeByte_6 : decode cJ19_copyOfRangeByte 6 = .ok (.iload_n 1, 1) := dk_27 (dk_at dksJ19_copyOfRangeByte_0 6 rfl rfl)
theorem dJ19_copyOfRangeByte_7 : decode cJ19_copyOfRangeByte 7 = .ok (.isub, 1) := dk_100 (dk_at dksJ19_copyOfRangeByte_0 7 rfl rfl)
theorem dJ19_copyOfRangeByte_8 : decode cJ19_copyOfRangeByte 8 = .ok (.istore_n 3, 1) := dk_62 (dk_at dksJ19_copyOfRangeByte_0 8 rfl rfl)
theorem dJ19_copyOfRangeByte_9 : decode cJ19_copyOfRangeByte 9 = .ok (.iload_n 3, 1) := dk_29 (dk_at dksJ19_copyOfRangeByte_0 9 rfl rfl)
theorem dJ19_copyOfRangeByte_10 : decode cJ19_copyOfRangeByte 10 = .ok (.newarray .byte, 2) := dk_188_8 (dk_at dksJ19_copyOfRangeByte_0 10 rfl rfl)
theorem dJ19_copyOfRangeByte_12 : decode cJ19_copyOfRangeByte 12 = .ok (.astore 4, 2) := dk_58 4 (dk_at dksJ19_copyOfRangeByte_0 12 rfl rfl)
theorem dJ19_copyOfRangeByte_14 : decode cJ19_copyOfRangeByte 14 = .ok (.aload_n 0, 1) := dk_42 (dk_at dksJ19_copyOfRangeByte_0 14 rfl rfl)
theorem dJ19_copyOfRangeByte_15 : decode cJ19_copyOfRangeByte 15 = .ok (.iload_n 1, 1) := dk_27 (dk_at dksJ19_copyOfRangeByte_0 15 rfl rfl)
theorem dJ19_copyOfRangeByte_16 : decode cJ19_copyOfRangeByte 16 = .ok (.aload 4, 2) := dk_25 4 (dk_at dksJ19_copyOfRangeByte_0 16 rfl rfl)
theorem dJ19_copyOfRangeByte_18 : decode cJ19_copyOfRangeByte 18 = .ok (.iconst 0, 1) := dk_3 (dk_at dksJ19_copyOfRangeByte_0 18 rfl rfl)
theorem dJ19_copyOfRangeByte_19 : decode cJ19_copyOfRangeByte 19 = .ok (.aload_n 0, 1) := dk_42 (dk_at dksJ19_copyOfRangeByte_0 19 rfl rfl)
theorem dJ19_copyOfRangeByte_20 : decode cJ19_copyOfRangeByte 20 = .ok (.arraylength, 1) := dk_190 (dk_at dksJ19_copyOfRangeByte_0 20 rfl rfl)
theorem dJ19_copyOfRangeByte_21 : decode cJ19_copyOfRangeByte 21 = .ok (.iload_n 1, 1) := dk_27 (dk_at dksJ19_copyOfRangeByte_0 21 rfl rfl)
theorem dJ19_copyOfRangeByte_22 : decode cJ19_copyOfRangeByte 22 = .ok (.isub, 1) := dk_100 (dk_at dksJ19_copyOfRangeByte_0 22 rfl rfl)
theorem dJ19_copyOfRangeByte_23 : decode cJ19_copyOfRangeByte 23 = .ok (.iload_n 3, 1) := dk_29 (dk_at dksJ19_copyOfRangeByte_0 23 rfl rfl)
theorem dJ19_copyOfRangeByte_24 : decode cJ19_copyOfRangeByte 24 = .ok (.invokestatic 304, 3) := dk_184 1 48 (dk_at dksJ19_copyOfRangeByte_1 0 rfl rfl)
theorem dJ19_copyOfRangeByte_27 : decode cJ19_copyOfRangeByte 27 = .ok (.invokestatic 150, 3) := dk_184 0 150 (dk_at dksJ19_copyOfRangeByte_1 3 rfl rfl)
theorem dJ19_copyOfRangeByte_30 : decode cJ19_copyOfRangeByte 30 = .ok (.aload 4, 2) := dk_25 4 (dk_at dksJ19_copyOfRangeByte_1 6 rfl rfl)
theorem dJ19_copyOfRangeByte_32 : decode cJ19_copyOfRangeByte 32 = .ok (.areturn, 1) := dk_176 (dk_at dksJ19_copyOfRangeByte_1 8 rfl rfl)
abbrev iJ19_copyOfRangeByte : xM := (yJ19_copyOfRangeByte, cJ19_copyOfRangeByte, 5, (some (.array .byte)), [])
theorem mJ19_copyOfRangeByte : xOkM iJ19_copyOfRangeByte := ⟨by decide +kernel, by decide, q586, q152⟩
abbrev cJ19_checkLength : ByteArray := prog_57_method_131_code
def yJ19_checkLength : MethodName := ⟨RJ19, "checkLength", "(II)V"⟩
def dkwJ19_checkLength_1 : List UInt8 := [182, 0, 50, 27, 182, 0, 54, 182, 0, 61, 183, 0, 65, 191, 177]
abbrev dktJ19_checkLength_1 : List UInt8 := dkwJ19_checkLength_1 ++ []
def dkwJ19_checkLength_0 : List UInt8 := [27, 26, 162, 0, 35, 187, 0, 43, 89, 187, 0, 45, 89, 183, 0, 47, 26, 182, 0, 54, 19, 1, 81]
abbrev dktJ19_checkLength_0 : List UInt8 := dkwJ19_checkLength_0 ++ dktJ19_checkLength_1
theorem dksJ19_checkLength_0 : cJ19_checkLength.data.toList.drop 0 = dktJ19_checkLength_0 := by decide +kernel
theorem dksJ19_checkLength_1 : cJ19_checkLength.data.toList.drop 23 = dktJ19_checkLength_1 := dk_seg dksJ19_checkLength_0 23 rfl rfl
theorem dJ19_checkLength_0 : decode cJ19_checkLength 0 = .ok (.iload_n 1, 1) := dk_27 (dk_at dksJ19_checkLength_0 0 rfl rfl)
theorem dJ19_checkLength_1 : decode cJ19_checkLength 1 = .ok (.iload_n 0, 1) := dk_26 (dk_at dksJ19_checkLength_0 1 rfl rfl)
theorem dJ19_checkLength_2 : decode cJ19_checkLength 2 = .ok (.if_icmp .ge 35, 3) := dk_162 0 35 (dk_at dksJ19_checkLength_0 2 rfl rfl)
theorem dJ19_checkLength_5 : decode cJ19_checkLength 5 = .ok (.new 43, 3) := dk_187 0 43 (dk_at dksJ19_checkLength_0 5 rfl rfl)
theorem dJ19_checkLength_8 : decode cJ19_checkLength 8 = .ok (.dup, 1) := dk_89 (dk_at dksJ19_checkLength_0 8 rfl rfl)
theorem dJ19_checkLength_9 : decode cJ19_checkLength 9 = .ok (.new 45, 3) := dk_187 0 45 (dk_at dksJ19_checkLength_0 9 rfl rfl)
theorem dJ19_checkLength_12 : decode cJ19_checkLength 12 = .ok (.dup, 1) := dk_89 (dk_at dksJ19_checkLength_0 12 rfl rfl)
theorem dJ19_checkLength_13 : decode cJ19_checkLength 13 = .ok (.invokespecial 47, 3) := dk_183 0 47 (dk_at dksJ19_checkLength_0 13 rfl rfl)
theorem dJ19_checkLength_16 : decode cJ19_checkLength 16 = .ok (.iload_n 0, 1) := dk_26 (dk_at dksJ19_checkLength_0 16 rfl rfl)
theorem dJ19_checkLength_17 : decode cJ19_checkLength 17 = .ok (.invokevirtual 54, 3) := dk_182 0 54 (dk_at dksJ19_checkLength_0 17 rfl rfl)
theorem dJ19_checkLength_20 : decode cJ19_checkLength 20 = .ok (.ldc_w 337, 3) := dk_19 1 81 (dk_at dksJ19_checkLength_0 20 rfl rfl)
theorem dJ19_checkLength_23 : decode cJ19_checkLength 23 = .ok (.invokevirtual 50, 3) := dk_182 0 50 (dk_at dksJ19_checkLength_1 0 rfl rfl)
theorem dJ19_checkLength_26 : decode cJ19_checkLength 26 = .ok (.iload_n 1, 1) := dk_27 (dk_at dksJ19_checkLength_1 3 rfl rfl)
theorem dJ19_checkLength_27 : decode cJ19_checkLength 27 = .ok (.invokevirtual 54, 3) := dk_182 0 54 (dk_at dksJ19_checkLength_1 4 rfl rfl)
theorem dJ19_checkLength_30 : decode cJ19_checkLength 30 = .ok (.invokevirtual 61, 3) := dk_182 0 61 (dk_at dksJ19_checkLength_1 7 rfl rfl)
theorem dJ19_checkLength_33 : decode cJ19_checkLength 33 = .ok (.invokespecial 65, 3) := dk_183 0 65 (dk_at dksJ19_checkLength_1 10 rfl rfl)
theorem dJ19_checkLength_36 : decode cJ19_checkLength 36 = .ok (.athrow, 1) := dk_191 (dk_at dksJ19_checkLength_1 13 rfl rfl)
theorem dJ19_checkLength_37 : decode cJ19_checkLength 37 = .ok (.return_, 1) := dk_177 (dk_at dksJ19_checkLength_1 14 rfl rfl)
abbrev iJ19_checkLength : xM := (yJ19_checkLength, cJ19_checkLength, 2, none, [])
theorem mJ19_checkLength : xOkM iJ19_checkLength := ⟨by decide +kernel, by decide, q589, q152⟩
abbrev cJ19_copyOf_2 : ByteArray := prog_57_method_119_code
def yJ19_copyOf_2 : MethodName := ⟨RJ19, "copyOf", "([Ljava/lang/Object;I)[Ljava/lang/Object;"⟩
def dkwJ19_copyOf_2_0 : List UInt8 := [42, 27, 42, 182, 0, 86, 184, 1, 44, 176]
abbrev dktJ19_copyOf_2_0 : List UInt8 := dkwJ19_copyOf_2_0 ++ []
theorem dksJ19_copyOf_2_0 : cJ19_copyOf_2.data.toList.drop 0 = dktJ19_copyOf_2_0 := by decide +kernel
theorem dJ19_copyOf_2_0 : decode cJ19_copyOf_2 0 = .ok (.aload_n 0, 1) := dk_42 (dk_at dksJ19_copyOf_2_0 0 rfl rfl)
theorem dJ19_copyOf_2_1 : decode cJ19_copyOf_2 1 = .ok (.iload_n 1, 1) := dk_27 (dk_at dksJ19_copyOf_2_0 1 rfl rfl)
theorem dJ19_copyOf_2_2 : decode cJ19_copyOf_2 2 = .ok (.aload_n 0, 1) := dk_42 (dk_at dksJ19_copyOf_2_0 2 rfl rfl)
theorem dJ19_copyOf_2_3 : decode cJ19_copyOf_2 3 = .ok (.invokevirtual 86, 3) := dk_182 0 86 (dk_at dksJ19_copyOf_2_0 3 rfl rfl)
theorem dJ19_copyOf_2_6 : decode cJ19_copyOf_2 6 = .ok (.invokestatic 300, 3) := dk_184 1 44 (dk_at dksJ19_copyOf_2_0 6 rfl rfl)
theorem dJ19_copyOf_2_9 : decode cJ19_copyOf_2 9 = .ok (.areturn, 1) := dk_176 (dk_at dksJ19_copyOf_2_0 9 rfl rfl)
abbrev iJ19_copyOf_2 : xM := (yJ19_copyOf_2, cJ19_copyOf_2, 2, (some (.array (.object "java/lang/Object"))), [])
theorem mJ19_copyOf_2 : xOkM iJ19_copyOf_2 := ⟨by decide +kernel, by decide, q1304, q152⟩
abbrev cJ19_copyOf_3 : ByteArray := prog_57_method_120_code
def yJ19_copyOf_3 : MethodName := ⟨RJ19, "copyOf", "([Ljava/lang/Object;ILjava/lang/Class;)[Ljava/lang/Object;"⟩
def dkwJ19_copyOf_3_1 : List UInt8 := [78, 42, 3, 45, 3, 42, 190, 27, 184, 1, 48, 184, 0, 150, 45, 176]
abbrev dktJ19_copyOf_3_1 : List UInt8 := dkwJ19_copyOf_3_1 ++ []
def dkwJ19_copyOf_3_0 : List UInt8 := [44, 18, 110, 166, 0, 10, 27, 189, 0, 2, 167, 0, 14, 44, 182, 0, 90, 27, 184, 0, 95, 192, 0, 110]
abbrev dktJ19_copyOf_3_0 : List UInt8 := dkwJ19_copyOf_3_0 ++ dktJ19_copyOf_3_1
theorem dksJ19_copyOf_3_0 : cJ19_copyOf_3.data.toList.drop 0 = dktJ19_copyOf_3_0 := by decide +kernel
theorem dksJ19_copyOf_3_1 : cJ19_copyOf_3.data.toList.drop 24 = dktJ19_copyOf_3_1 := dk_seg dksJ19_copyOf_3_0 24 rfl rfl
theorem dJ19_copyOf_3_0 : decode cJ19_copyOf_3 0 = .ok (.aload_n 2, 1) := dk_44 (dk_at dksJ19_copyOf_3_0 0 rfl rfl)
theorem dJ19_copyOf_3_1 : decode cJ19_copyOf_3 1 = .ok (.ldc 110, 2) := dk_18 110 (dk_at dksJ19_copyOf_3_0 1 rfl rfl)
theorem dJ19_copyOf_3_3 : decode cJ19_copyOf_3 3 = .ok (.if_acmp .ne 10, 3) := dk_166 0 10 (dk_at dksJ19_copyOf_3_0 3 rfl rfl)
theorem dJ19_copyOf_3_6 : decode cJ19_copyOf_3 6 = .ok (.iload_n 1, 1) := dk_27 (dk_at dksJ19_copyOf_3_0 6 rfl rfl)
theorem dJ19_copyOf_3_7 : decode cJ19_copyOf_3 7 = .ok (.anewarray 2, 3) := dk_189 0 2 (dk_at dksJ19_copyOf_3_0 7 rfl rfl)
theorem dJ19_copyOf_3_10 : decode cJ19_copyOf_3 10 = .ok (.goto 14, 3) := dk_167 0 14 (dk_at dksJ19_copyOf_3_0 10 rfl rfl)
theorem dJ19_copyOf_3_13 : decode cJ19_copyOf_3 13 = .ok (.aload_n 2, 1) := dk_44 (dk_at dksJ19_copyOf_3_0 13 rfl rfl)
theorem dJ19_copyOf_3_14 : decode cJ19_copyOf_3 14 = .ok (.invokevirtual 90, 3) := dk_182 0 90 (dk_at dksJ19_copyOf_3_0 14 rfl rfl)
theorem dJ19_copyOf_3_17 : decode cJ19_copyOf_3 17 = .ok (.iload_n 1, 1) := dk_27 (dk_at dksJ19_copyOf_3_0 17 rfl rfl)
theorem dJ19_copyOf_3_18 : decode cJ19_copyOf_3 18 = .ok (.invokestatic 95, 3) := dk_184 0 95 (dk_at dksJ19_copyOf_3_0 18 rfl rfl)
theorem dJ19_copyOf_3_21 : decode cJ19_copyOf_3 21 = .ok (.checkcast 110, 3) := dk_192 0 110 (dk_at dksJ19_copyOf_3_0 21 rfl rfl)
theorem dJ19_copyOf_3_24 : decode cJ19_copyOf_3 24 = .ok (.astore_n 3, 1) := dk_78 (dk_at dksJ19_copyOf_3_1 0 rfl rfl)
theorem dJ19_copyOf_3_25 : decode cJ19_copyOf_3 25 = .ok (.aload_n 0, 1) := dk_42 (dk_at dksJ19_copyOf_3_1 1 rfl rfl)
theorem dJ19_copyOf_3_26 : decode cJ19_copyOf_3 26 = .ok (.iconst 0, 1) := dk_3 (dk_at dksJ19_copyOf_3_1 2 rfl rfl)
theorem dJ19_copyOf_3_27 : decode cJ19_copyOf_3 27 = .ok (.aload_n 3, 1) := dk_45 (dk_at dksJ19_copyOf_3_1 3 rfl rfl)
theorem dJ19_copyOf_3_28 : decode cJ19_copyOf_3 28 = .ok (.iconst 0, 1) := dk_3 (dk_at dksJ19_copyOf_3_1 4 rfl rfl)
theorem dJ19_copyOf_3_29 : decode cJ19_copyOf_3 29 = .ok (.aload_n 0, 1) := dk_42 (dk_at dksJ19_copyOf_3_1 5 rfl rfl)
theorem dJ19_copyOf_3_30 : decode cJ19_copyOf_3 30 = .ok (.arraylength, 1) := dk_190 (dk_at dksJ19_copyOf_3_1 6 rfl rfl)
theorem dJ19_copyOf_3_31 : decode cJ19_copyOf_3 31 = .ok (.iload_n 1, 1) := dk_27 (dk_at dksJ19_copyOf_3_1 7 rfl rfl)
theorem dJ19_copyOf_3_32 : decode cJ19_copyOf_3 32 = .ok (.invokestatic 304, 3) := dk_184 1 48 (dk_at dksJ19_copyOf_3_1 8 rfl rfl)
theorem dJ19_copyOf_3_35 : decode cJ19_copyOf_3 35 = .ok (.invokestatic 150, 3) := dk_184 0 150 (dk_at dksJ19_copyOf_3_1 11 rfl rfl)
theorem dJ19_copyOf_3_38 : decode cJ19_copyOf_3 38 = .ok (.aload_n 3, 1) := dk_45 (dk_at dksJ19_copyOf_3_1 14 rfl rfl)
theorem dJ19_copyOf_3_39 : decode cJ19_copyOf_3 39 = .ok (.areturn, 1) := dk_176 (dk_at dksJ19_copyOf_3_1 15 rfl rfl)
abbrev iJ19_copyOf_3 : xM := (yJ19_copyOf_3, cJ19_copyOf_3, 4, (some (.array (.object "java/lang/Object"))), [])
theorem mJ19_copyOf_3 : xOkM iJ19_copyOf_3 := ⟨by decide +kernel, by decide, q1308, q152⟩
abbrev cJ19_fill : ByteArray := prog_57_method_110_code
def yJ19_fill : MethodName := ⟨RJ19, "fill", "([BIIB)V"⟩
def dkwJ19_fill_1 : List UInt8 := [167, 255, 242, 177]
abbrev dktJ19_fill_1 : List UInt8 := dkwJ19_fill_1 ++ []
def dkwJ19_fill_0 : List UInt8 := [42, 190, 27, 28, 184, 0, 13, 27, 54, 4, 21, 4, 28, 162, 0, 14, 42, 21, 4, 29, 84, 132, 4, 1]
abbrev dktJ19_fill_0 : List UInt8 := dkwJ19_fill_0 ++ dktJ19_fill_1
theorem dksJ19_fill_0 : cJ19_fill.data.toList.drop 0 = dktJ19_fill_0 := by decide +kernel
theorem dksJ19_fill_1 : cJ19_fill.data.toList.drop 24 = dktJ19_fill_1 := dk_seg dksJ19_fill_0 24 rfl rfl
theorem dJ19_fill_0 : decode cJ19_fill 0 = .ok (.aload_n 0, 1) := dk_42 (dk_at dksJ19_fill_0 0 rfl rfl)
theorem dJ19_fill_1 : decode cJ19_fill 1 = .ok (.arraylength, 1) := dk_190 (dk_at dksJ19_fill_0 1 rfl rfl)
theorem dJ19_fill_2 : decode cJ19_fill 2 = .ok (.iload_n 1, 1) := dk_27 (dk_at dksJ19_fill_0 2 rfl rfl)
theorem dJ19_fill_3 : decode cJ19_fill 3 = .ok (.iload_n 2, 1) := dk_28 (dk_at dksJ19_fill_0 3 rfl rfl)
theorem dJ19_fill_4 : decode cJ19_fill 4 = .ok (.invokestatic 13, 3) := dk_184 0 13 (dk_at dksJ19_fill_0 4 rfl rfl)
theorem dJ19_fill_7 : decode cJ19_fill 7 = .ok (.iload_n 1, 1) := dk_27 (dk_at dksJ19_fill_0 7 rfl rfl)
theorem dJ19_fill_8 : decode cJ19_fill 8 = .ok (.istore 4, 2) := dk_54 4 (dk_at dksJ19_fill_0 8 rfl rfl)
theorem dJ19_fill_10 : decode cJ19_fill 10 = .ok (.iload 4, 2) := dk_21 4 (dk_at dksJ19_fill_0 10 rfl rfl)
theorem dJ19_fill_12 : decode cJ19_fill 12 = .ok (.iload_n 2, 1) := dk_28 (dk_at dksJ19_fill_0 12 rfl rfl)
theorem dJ19_fill_13 : decode cJ19_fill 13 = .ok (.if_icmp .ge 14, 3) := dk_162 0 14 (dk_at dksJ19_fill_0 13 rfl rfl)
theorem dJ19_fill_16 : decode cJ19_fill 16 = .ok (.aload_n 0, 1) := dk_42 (dk_at dksJ19_fill_0 16 rfl rfl)
theorem dJ19_fill_17 : decode cJ19_fill 17 = .ok (.iload 4, 2) := dk_21 4 (dk_at dksJ19_fill_0 17 rfl rfl)
theorem dJ19_fill_19 : decode cJ19_fill 19 = .ok (.iload_n 3, 1) := dk_29 (dk_at dksJ19_fill_0 19 rfl rfl)
theorem dJ19_fill_20 : decode cJ19_fill 20 = .ok (.bastore, 1) := dk_84 (dk_at dksJ19_fill_0 20 rfl rfl)
theorem dJ19_fill_21 : decode cJ19_fill 21 = .ok (.iinc 4 1, 3) := dk_132 4 1 (dk_at dksJ19_fill_0 21 rfl rfl)
theorem dJ19_fill_24 : decode cJ19_fill 24 = .ok (.goto (-14), 3) := dk_167 255 242 (dk_at dksJ19_fill_1 0 rfl rfl)
theorem dJ19_fill_27 : decode cJ19_fill 27 = .ok (.return_, 1) := dk_177 (dk_at dksJ19_fill_1 3 rfl rfl)
abbrev iJ19_fill : xM := (yJ19_fill, cJ19_fill, 5, none, [])
theorem mJ19_fill : xOkM iJ19_fill := ⟨by decide +kernel, by decide, q3180, q152⟩
abbrev cJ19_rangeCheck : ByteArray := prog_57_method_30_code
def yJ19_rangeCheck : MethodName := ⟨RJ19, "rangeCheck", "(III)V"⟩
def dkwJ19_rangeCheck_3 : List UInt8 := [183, 0, 70, 191, 177]
abbrev dktJ19_rangeCheck_3 : List UInt8 := dkwJ19_rangeCheck_3 ++ []
def dkwJ19_rangeCheck_2 : List UInt8 := [27, 156, 0, 12, 187, 0, 68, 89, 27, 183, 0, 70, 191, 28, 26, 164, 0, 12, 187, 0, 68, 89, 28]
abbrev dktJ19_rangeCheck_2 : List UInt8 := dkwJ19_rangeCheck_2 ++ dktJ19_rangeCheck_3
def dkwJ19_rangeCheck_1 : List UInt8 := [182, 0, 54, 18, 57, 182, 0, 50, 28, 182, 0, 54, 18, 59, 182, 0, 50, 182, 0, 61, 183, 0, 65, 191]
abbrev dktJ19_rangeCheck_1 : List UInt8 := dkwJ19_rangeCheck_1 ++ dktJ19_rangeCheck_2
def dkwJ19_rangeCheck_0 : List UInt8 := [27, 28, 164, 0, 44, 187, 0, 43, 89, 187, 0, 45, 89, 183, 0, 47, 18, 48, 182, 0, 50, 27]
abbrev dktJ19_rangeCheck_0 : List UInt8 := dkwJ19_rangeCheck_0 ++ dktJ19_rangeCheck_1
theorem dksJ19_rangeCheck_0 : cJ19_rangeCheck.data.toList.drop 0 = dktJ19_rangeCheck_0 := by decide +kernel
theorem dksJ19_rangeCheck_1 : cJ19_rangeCheck.data.toList.drop 22 = dktJ19_rangeCheck_1 := dk_seg dksJ19_rangeCheck_0 22 rfl rfl
theorem dksJ19_rangeCheck_2 : cJ19_rangeCheck.data.toList.drop 46 = dktJ19_rangeCheck_2 := dk_seg dksJ19_rangeCheck_1 24 rfl rfl
theorem dksJ19_rangeCheck_3 : cJ19_rangeCheck.data.toList.drop 69 = dktJ19_rangeCheck_3 := dk_seg dksJ19_rangeCheck_2 23 rfl rfl
theorem dJ19_rangeCheck_0 : decode cJ19_rangeCheck 0 = .ok (.iload_n 1, 1) := dk_27 (dk_at dksJ19_rangeCheck_0 0 rfl rfl)
theorem dJ19_rangeCheck_1 : decode cJ19_rangeCheck 1 = .ok (.iload_n 2, 1) := dk_28 (dk_at dksJ19_rangeCheck_0 1 rfl rfl)
theorem dJ19_rangeCheck_2 : decode cJ19_rangeCheck 2 = .ok (.if_icmp .le 44, 3) := dk_164 0 44 (dk_at dksJ19_rangeCheck_0 2 rfl rfl)
theorem dJ19_rangeCheck_5 : decode cJ19_rangeCheck 5 = .ok (.new 43, 3) := dk_187 0 43 (dk_at dksJ19_rangeCheck_0 5 rfl rfl)
theorem dJ19_rangeCheck_8 : decode cJ19_rangeCheck 8 = .ok (.dup, 1) := dk_89 (dk_at dksJ19_rangeCheck_0 8 rfl rfl)
theorem dJ19_rangeCheck_9 : decode cJ19_rangeCheck 9 = .ok (.new 45, 3) := dk_187 0 45 (dk_at dksJ19_rangeCheck_0 9 rfl rfl)
theorem dJ19_rangeCheck_12 : decode cJ19_rangeCheck 12 = .ok (.dup, 1) := dk_89 (dk_at dksJ19_rangeCheck_0 12 rfl rfl)
theorem dJ19_rangeCheck_13 : decode cJ19_rangeCheck 13 = .ok (.invokespecial 47, 3) := dk_183 0 47 (dk_at dksJ19_rangeCheck_0 13 rfl rfl)
theorem dJ19_rangeCheck_16 : decode cJ19_rangeCheck 16 = .ok (.ldc 48, 2) := dk_18 48 (dk_at dksJ19_rangeCheck_0 16 rfl rfl)
theorem dJ19_rangeCheck_18 : decode cJ19_rangeCheck 18 = .ok (.invokevirtual 50, 3) := dk_182 0 50 (dk_at dksJ19_rangeCheck_0 18 rfl rfl)
theorem dJ19_rangeCheck_21 : decode cJ19_rangeCheck 21 = .ok (.iload_n 1, 1) := dk_27 (dk_at dksJ19_rangeCheck_0 21 rfl rfl)
theorem dJ19_rangeCheck_22 : decode cJ19_rangeCheck 22 = .ok (.invokevirtual 54, 3) := dk_182 0 54 (dk_at dksJ19_rangeCheck_1 0 rfl rfl)
theorem dJ19_rangeCheck_25 : decode cJ19_rangeCheck 25 = .ok (.ldc 57, 2) := dk_18 57 (dk_at dksJ19_rangeCheck_1 3 rfl rfl)
theorem dJ19_rangeCheck_27 : decode cJ19_rangeCheck 27 = .ok (.invokevirtual 50, 3) := dk_182 0 50 (dk_at dksJ19_rangeCheck_1 5 rfl rfl)
theorem dJ19_rangeCheck_30 : decode cJ19_rangeCheck 30 = .ok (.iload_n 2, 1) := dk_28 (dk_at dksJ19_rangeCheck_1 8 rfl rfl)
theorem dJ19_rangeCheck_31 : decode cJ19_rangeCheck 31 = .ok (.invokevirtual 54, 3) := dk_182 0 54 (dk_at dksJ19_rangeCheck_1 9 rfl rfl)
theorem dJ19_rangeCheck_34 : decode cJ19_rangeCheck 34 = .ok (.ldc 59, 2) := dk_18 59 (dk_at dksJ19_rangeCheck_1 12 rfl rfl)
theorem dJ19_rangeCheck_36 : decode cJ19_rangeCheck 36 = .ok (.invokevirtual 50, 3) := dk_182 0 50 (dk_at dksJ19_rangeCheck_1 14 rfl rfl)
theorem dJ19_rangeCheck_39 : decode cJ19_rangeCheck 39 = .ok (.invokevirtual 61, 3) := dk_182 0 61 (dk_at dksJ19_rangeCheck_1 17 rfl rfl)
theorem dJ19_rangeCheck_42 : decode cJ19_rangeCheck 42 = .ok (.invokespecial 65, 3) := dk_183 0 65 (dk_at dksJ19_rangeCheck_1 20 rfl rfl)
theorem dJ19_rangeCheck_45 : decode cJ19_rangeCheck 45 = .ok (.athrow, 1) := dk_191 (dk_at dksJ19_rangeCheck_1 23 rfl rfl)
theorem dJ19_rangeCheck_46 : decode cJ19_rangeCheck 46 = .ok (.iload_n 1, 1) := dk_27 (dk_at dksJ19_rangeCheck_2 0 rfl rfl)
theorem dJ19_rangeCheck_47 : decode cJ19_rangeCheck 47 = .ok (.ifCond .ge 12, 3) := dk_156 0 12 (dk_at dksJ19_rangeCheck_2 1 rfl rfl)
theorem dJ19_rangeCheck_50 : decode cJ19_rangeCheck 50 = .ok (.new 68, 3) := dk_187 0 68 (dk_at dksJ19_rangeCheck_2 4 rfl rfl)
theorem dJ19_rangeCheck_53 : decode cJ19_rangeCheck 53 = .ok (.dup, 1) := dk_89 (dk_at dksJ19_rangeCheck_2 7 rfl rfl)
theorem dJ19_rangeCheck_54 : decode cJ19_rangeCheck 54 = .ok (.iload_n 1, 1) := dk_27 (dk_at dksJ19_rangeCheck_2 8 rfl rfl)
theorem dJ19_rangeCheck_55 : decode cJ19_rangeCheck 55 = .ok (.invokespecial 70, 3) := dk_183 0 70 (dk_at dksJ19_rangeCheck_2 9 rfl rfl)
theorem dJ19_rangeCheck_58 : decode cJ19_rangeCheck 58 = .ok (.athrow, 1) := dk_191 (dk_at dksJ19_rangeCheck_2 12 rfl rfl)
theorem dJ19_rangeCheck_59 : decode cJ19_rangeCheck 59 = .ok (.iload_n 2, 1) := dk_28 (dk_at dksJ19_rangeCheck_2 13 rfl rfl)
theorem dJ19_rangeCheck_60 : decode cJ19_rangeCheck 60 = .ok (.iload_n 0, 1) := dk_26 (dk_at dksJ19_rangeCheck_2 14 rfl rfl)
theorem dJ19_rangeCheck_61 : decode cJ19_rangeCheck 61 = .ok (.if_icmp .le 12, 3) := dk_164 0 12 (dk_at dksJ19_rangeCheck_2 15 rfl rfl)
theorem dJ19_rangeCheck_64 : decode cJ19_rangeCheck 64 = .ok (.new 68, 3) := dk_187 0 68 (dk_at dksJ19_rangeCheck_2 18 rfl rfl)
theorem dJ19_rangeCheck_67 : decode cJ19_rangeCheck 67 = .ok (.dup, 1) := dk_89 (dk_at dksJ19_rangeCheck_2 21 rfl rfl)
theorem dJ19_rangeCheck_68 : decode cJ19_rangeCheck 68 = .ok (.iload_n 2, 1) := dk_28 (dk_at dksJ19_rangeCheck_2 22 rfl rfl)
theorem dJ19_rangeCheck_69 : decode cJ19_rangeCheck 69 = .ok (.invokespecial 70, 3) := dk_183 0 70 (dk_at dksJ19_rangeCheck_3 0 rfl rfl)
theorem dJ19_rangeCheck_72 : decode cJ19_rangeCheck 72 = .ok (.athrow, 1) := dk_191 (dk_at dksJ19_rangeCheck_3 3 rfl rfl)
theorem dJ19_rangeCheck_73 : decode cJ19_rangeCheck 73 = .ok (.return_, 1) := dk_177 (dk_at dksJ19_rangeCheck_3 4 rfl rfl)
abbrev iJ19_rangeCheck : xM := (yJ19_rangeCheck, cJ19_rangeCheck, 3, none, [])
theorem mJ19_rangeCheck : xOkM iJ19_rangeCheck := ⟨by decide +kernel, by decide, q3183, q152⟩
abbrev cJ20_checkFromToIndex : ByteArray := prog_94_method_12_code
def yJ20_checkFromToIndex : MethodName := ⟨RJ20, "checkFromToIndex", "(IIILjava/util/function/BiFunction;)I"⟩
def dkwJ20_checkFromToIndex_0 : List UInt8 := [26, 155, 0, 13, 26, 27, 163, 0, 8, 27, 28, 164, 0, 11, 45, 26, 27, 28, 184, 0, 99, 191, 26, 172]
abbrev dktJ20_checkFromToIndex_0 : List UInt8 := dkwJ20_checkFromToIndex_0 ++ []
theorem dksJ20_checkFromToIndex_0 : cJ20_checkFromToIndex.data.toList.drop 0 = dktJ20_checkFromToIndex_0 := by decide +kernel
theorem dJ20_checkFromToIndex_0 : decode cJ20_checkFromToIndex 0 = .ok (.iload_n 0, 1) := dk_26 (dk_at dksJ20_checkFromToIndex_0 0 rfl rfl)
theorem dJ20_checkFromToIndex_1 : decode cJ20_checkFromToIndex 1 = .ok (.ifCond .lt 13, 3) := dk_155 0 13 (dk_at dksJ20_checkFromToIndex_0 1 rfl rfl)
theorem dJ20_checkFromToIndex_4 : decode cJ20_checkFromToIndex 4 = .ok (.iload_n 0, 1) := dk_26 (dk_at dksJ20_checkFromToIndex_0 4 rfl rfl)
theorem dJ20_checkFromToIndex_5 : decode cJ20_checkFromToIndex 5 = .ok (.iload_n 1, 1) := dk_27 (dk_at dksJ20_checkFromToIndex_0 5 rfl rfl)
theorem dJ20_checkFromToIndex_6 : decode cJ20_checkFromToIndex 6 = .ok (.if_icmp .gt 8, 3) := dk_163 0 8 (dk_at dksJ20_checkFromToIndex_0 6 rfl rfl)
theorem dJ20_checkFromToIndex_9 : decode cJ20_checkFromToIndex 9 = .ok (.iload_n 1, 1) := dk_27 (dk_at dksJ20_checkFromToIndex_0 9 rfl rfl)
theorem dJ20_checkFromToIndex_10 : decode cJ20_checkFromToIndex 10 = .ok (.iload_n 2, 1) := dk_28 (dk_at dksJ20_checkFromToIndex_0 10 rfl rfl)
theorem dJ20_checkFromToIndex_11 : decode cJ20_checkFromToIndex 11 = .ok (.if_icmp .le 11, 3) := dk_164 0 11 (dk_at dksJ20_checkFromToIndex_0 11 rfl rfl)
theorem dJ20_checkFromToIndex_14 : decode cJ20_checkFromToIndex 14 = .ok (.aload_n 3, 1) := dk_45 (dk_at dksJ20_checkFromToIndex_0 14 rfl rfl)
theorem dJ20_checkFromToIndex_15 : decode cJ20_checkFromToIndex 15 = .ok (.iload_n 0, 1) := dk_26 (dk_at dksJ20_checkFromToIndex_0 15 rfl rfl)
theorem dJ20_checkFromToIndex_16 : decode cJ20_checkFromToIndex 16 = .ok (.iload_n 1, 1) := dk_27 (dk_at dksJ20_checkFromToIndex_0 16 rfl rfl)
theorem dJ20_checkFromToIndex_17 : decode cJ20_checkFromToIndex 17 = .ok (.iload_n 2, 1) := dk_28 (dk_at dksJ20_checkFromToIndex_0 17 rfl rfl)
theorem dJ20_checkFromToIndex_18 : decode cJ20_checkFromToIndex 18 = .ok (.invokestatic 99, 3) := dk_184 0 99 (dk_at dksJ20_checkFromToIndex_0 18 rfl rfl)
theorem dJ20_checkFromToIndex_21 : decode cJ20_checkFromToIndex 21 = .ok (.athrow, 1) := dk_191 (dk_at dksJ20_checkFromToIndex_0 21 rfl rfl)
theorem dJ20_checkFromToIndex_22 : decode cJ20_checkFromToIndex 22 = .ok (.iload_n 0, 1) := dk_26 (dk_at dksJ20_checkFromToIndex_0 22 rfl rfl)
theorem dJ20_checkFromToIndex_23 : decode cJ20_checkFromToIndex 23 = .ok (.ireturn, 1) := dk_172 (dk_at dksJ20_checkFromToIndex_0 23 rfl rfl)
abbrev iJ20_checkFromToIndex : xM := (yJ20_checkFromToIndex, cJ20_checkFromToIndex, 4, (some .int), [])
theorem mJ20_checkFromToIndex : xOkM iJ20_checkFromToIndex := ⟨by decide +kernel, by decide, q476, q154⟩
abbrev cJ20_checkFromIndexSize : ByteArray := prog_94_method_13_code
def yJ20_checkFromIndexSize : MethodName := ⟨RJ20, "checkFromIndexSize", "(IIILjava/util/function/BiFunction;)I"⟩
def dkwJ20_checkFromIndexSize_1 : List UInt8 := [172]
abbrev dktJ20_checkFromIndexSize_1 : List UInt8 := dkwJ20_checkFromIndexSize_1 ++ []
def dkwJ20_checkFromIndexSize_0 : List UInt8 := [28, 26, 128, 27, 128, 155, 0, 10, 27, 28, 26, 100, 164, 0, 11, 45, 26, 27, 28, 184, 0, 103, 191, 26]
abbrev dktJ20_checkFromIndexSize_0 : List UInt8 := dkwJ20_checkFromIndexSize_0 ++ dktJ20_checkFromIndexSize_1
theorem dksJ20_checkFromIndexSize_0 : cJ20_checkFromIndexSize.data.toList.drop 0 = dktJ20_checkFromIndexSize_0 := by decide +kernel
theorem dksJ20_checkFromIndexSize_1 : cJ20_checkFromIndexSize.data.toList.drop 24 = dktJ20_checkFromIndexSize_1 := dk_seg dksJ20_checkFromIndexSize_0 24 rfl rfl
theorem dJ20_checkFromIndexSize_0 : decode cJ20_checkFromIndexSize 0 = .ok (.iload_n 2, 1) := dk_28 (dk_at dksJ20_checkFromIndexSize_0 0 rfl rfl)
theorem dJ20_checkFromIndexSize_1 : decode cJ20_checkFromIndexSize 1 = .ok (.iload_n 0, 1) := dk_26 (dk_at dksJ20_checkFromIndexSize_0 1 rfl rfl)
theorem dJ20_checkFromIndexSize_2 : decode cJ20_checkFromIndexSize 2 = .ok (.ior, 1) := dk_128 (dk_at dksJ20_checkFromIndexSize_0 2 rfl rfl)
theorem dJ20_checkFromIndexSize_3 : decode cJ20_checkFromIndexSize 3 = .ok (.iload_n 1, 1) := dk_27 (dk_at dksJ20_checkFromIndexSize_0 3 rfl rfl)
theorem dJ20_checkFromIndexSize_4 : decode cJ20_checkFromIndexSize 4 = .ok (.ior, 1) := dk_128 (dk_at dksJ20_checkFromIndexSize_0 4 rfl rfl)
theorem dJ20_checkFromIndexSize_5 : decode cJ20_checkFromIndexSize 5 = .ok (.ifCond .lt 10, 3) := dk_155 0 10 (dk_at dksJ20_checkFromIndexSize_0 5 rfl rfl)
theorem dJ20_checkFromIndexSize_8 : decode cJ20_checkFromIndexSize 8 = .ok (.iload_n 1, 1) := dk_27 (dk_at dksJ20_checkFromIndexSize_0 8 rfl rfl)
theorem dJ20_checkFromIndexSize_9 : decode cJ20_checkFromIndexSize 9 = .ok (.iload_n 2, 1) := dk_28 (dk_at dksJ20_checkFromIndexSize_0 9 rfl rfl)
theorem dJ20_checkFromIndexSize_10 : decode cJ20_checkFromIndexSize 10 = .ok (.iload_n 0, 1) := dk_26 (dk_at dksJ20_checkFromIndexSize_0 10 rfl rfl)
theorem dJ20_checkFromIndexSize_11 : decode cJ20_checkFromIndexSize 11 = .ok (.isub, 1) := dk_100 (dk_at dksJ20_checkFromIndexSize_0 11 rfl rfl)
theorem dJ20_checkFromIndexSize_12 : decode cJ20_checkFromIndexSize 12 = .ok (.if_icmp .le 11, 3) := dk_164 0 11 (dk_at dksJ20_checkFromIndexSize_0 12 rfl rfl)
theorem dJ20_checkFromIndexSize_15 : decode cJ20_checkFromIndexSize 15 = .ok (.aload_n 3, 1) := dk_45 (dk_at dksJ20_checkFromIndexSize_0 15 rfl rfl)
theorem dJ20_checkFromIndexSize_16 : decode cJ20_checkFromIndexSize 16 = .ok (.iload_n 0, 1) := dk_26 (dk_at dksJ20_checkFromIndexSize_0 16 rfl rfl)
theorem dJ20_checkFromIndexSize_17 : decode cJ20_checkFromIndexSize 17 = .ok (.iload_n 1, 1) := dk_27 (dk_at dksJ20_checkFromIndexSize_0 17 rfl rfl)
theorem dJ20_checkFromIndexSize_18 : decode cJ20_checkFromIndexSize 18 = .ok (.iload_n 2, 1) := dk_28 (dk_at dksJ20_checkFromIndexSize_0 18 rfl rfl)
theorem dJ20_checkFromIndexSize_19 : decode cJ20_checkFromIndexSize 19 = .ok (.invokestatic 103, 3) := dk_184 0 103 (dk_at dksJ20_checkFromIndexSize_0 19 rfl rfl)
theorem dJ20_checkFromIndexSize_22 : decode cJ20_checkFromIndexSize 22 = .ok (.athrow, 1) := dk_191 (dk_at dksJ20_checkFromIndexSize_0 22 rfl rfl)
theorem dJ20_checkFromIndexSize_23 : decode cJ20_checkFromIndexSize 23 = .ok (.iload_n 0, 1) := dk_26 (dk_at dksJ20_checkFromIndexSize_0 23 rfl rfl)
theorem dJ20_checkFromIndexSize_24 : decode cJ20_checkFromIndexSize 24 = .ok (.ireturn, 1) := dk_172 (dk_at dksJ20_checkFromIndexSize_1 0 rfl rfl)
abbrev iJ20_checkFromIndexSize : xM := (yJ20_checkFromIndexSize, cJ20_checkFromIndexSize, 4, (some .int), [])
theorem mJ20_checkFromIndexSize : xOkM iJ20_checkFromIndexSize := ⟨by decide +kernel, by decide, q522, q154⟩
abbrev cJ20_checkIndex : ByteArray := prog_94_method_11_code
def yJ20_checkIndex : MethodName := ⟨RJ20, "checkIndex", "(IILjava/util/function/BiFunction;)I"⟩
def dkwJ20_checkIndex_0 : List UInt8 := [26, 155, 0, 8, 26, 27, 161, 0, 10, 44, 26, 27, 184, 0, 95, 191, 26, 172]
abbrev dktJ20_checkIndex_0 : List UInt8 := dkwJ20_checkIndex_0 ++ []
theorem dksJ20_checkIndex_0 : cJ20_checkIndex.data.toList.drop 0 = dktJ20_checkIndex_0 := by decide +kernel
theorem dJ20_checkIndex_0 : decode cJ20_checkIndex 0 = .ok (.iload_n 0, 1) := dk_26 (dk_at dksJ20_checkIndex_0 0 rfl rfl)
theorem dJ20_checkIndex_1 : decode cJ20_checkIndex 1 = .ok (.ifCond .lt 8, 3) := dk_155 0 8 (dk_at dksJ20_checkIndex_0 1 rfl rfl)
theorem dJ20_checkIndex_4 : decode cJ20_checkIndex 4 = .ok (.iload_n 0, 1) := dk_26 (dk_at dksJ20_checkIndex_0 4 rfl rfl)
theorem dJ20_checkIndex_5 : decode cJ20_checkIndex 5 = .ok (.iload_n 1, 1) := dk_27 (dk_at dksJ20_checkIndex_0 5 rfl rfl)
theorem dJ20_checkIndex_6 : decode cJ20_checkIndex 6 = .ok (.if_icmp .lt 10, 3) := dk_161 0 10 (dk_at dksJ20_checkIndex_0 6 rfl rfl)
theorem dJ20_checkIndex_9 : decode cJ20_checkIndex 9 = .ok (.aload_n 2, 1) := dk_44 (dk_at dksJ20_checkIndex_0 9 rfl rfl)
theorem dJ20_checkIndex_10 : decode cJ20_checkIndex 10 = .ok (.iload_n 0, 1) := dk_26 (dk_at dksJ20_checkIndex_0 10 rfl rfl)
theorem dJ20_checkIndex_11 : decode cJ20_checkIndex 11 = .ok (.iload_n 1, 1) := dk_27 (dk_at dksJ20_checkIndex_0 11 rfl rfl)
theorem dJ20_checkIndex_12 : decode cJ20_checkIndex 12 = .ok (.invokestatic 95, 3) := dk_184 0 95 (dk_at dksJ20_checkIndex_0 12 rfl rfl)
theorem dJ20_checkIndex_15 : decode cJ20_checkIndex 15 = .ok (.athrow, 1) := dk_191 (dk_at dksJ20_checkIndex_0 15 rfl rfl)
theorem dJ20_checkIndex_16 : decode cJ20_checkIndex 16 = .ok (.iload_n 0, 1) := dk_26 (dk_at dksJ20_checkIndex_0 16 rfl rfl)
theorem dJ20_checkIndex_17 : decode cJ20_checkIndex 17 = .ok (.ireturn, 1) := dk_172 (dk_at dksJ20_checkIndex_0 17 rfl rfl)
abbrev iJ20_checkIndex : xM := (yJ20_checkIndex, cJ20_checkIndex, 3, (some .int), [])
theorem mJ20_checkIndex : xOkM iJ20_checkIndex := ⟨by decide +kernel, by decide, q830, q154⟩
abbrev cJ21_inflate : ByteArray := prog_42_method_50_code
def yJ21_inflate : MethodName := ⟨RJ21, "inflate", "([BI[BII)V"⟩
def dkwJ21_inflate_0 : List UInt8 := [42, 27, 44, 29, 21, 4, 184, 0, 240, 177]
abbrev dktJ21_inflate_0 : List UInt8 := dkwJ21_inflate_0 ++ []
theorem dksJ21_inflate_0 : cJ21_inflate.data.toList.drop 0 = dktJ21_inflate_0 := by decide +kernel
theorem dJ21_inflate_0 : decode cJ21_inflate 0 = .ok (.aload_n 0, 1) := dk_42 (dk_at dksJ21_inflate_0 0 rfl rfl)
theorem dJ21_inflate_1 : decode cJ21_inflate 1 = .ok (.iload_n 1, 1) := dk_27 (dk_at dksJ21_inflate_0 1 rfl rfl)
theorem dJ21_inflate_2 : decode cJ21_inflate 2 = .ok (.aload_n 2, 1) := dk_44 (dk_at dksJ21_inflate_0 2 rfl rfl)
theorem dJ21_inflate_3 : decode cJ21_inflate 3 = .ok (.iload_n 3, 1) := dk_29 (dk_at dksJ21_inflate_0 3 rfl rfl)
theorem dJ21_inflate_4 : decode cJ21_inflate 4 = .ok (.iload 4, 2) := dk_21 4 (dk_at dksJ21_inflate_0 4 rfl rfl)
theorem dJ21_inflate_6 : decode cJ21_inflate 6 = .ok (.invokestatic 240, 3) := dk_184 0 240 (dk_at dksJ21_inflate_0 6 rfl rfl)
theorem dJ21_inflate_9 : decode cJ21_inflate 9 = .ok (.return_, 1) := dk_177 (dk_at dksJ21_inflate_0 9 rfl rfl)
abbrev iJ21_inflate : xM := (yJ21_inflate, cJ21_inflate, 5, none, [])
theorem mJ21_inflate : xOkM iJ21_inflate := ⟨by decide +kernel, by decide, q510, q155⟩
abbrev cJ21_canEncode : ByteArray := prog_42_method_3_code
def yJ21_canEncode : MethodName := ⟨RJ21, "canEncode", "(C)Z"⟩
def dkwJ21_canEncode_0 : List UInt8 := [26, 17, 0, 255, 163, 0, 7, 4, 167, 0, 4, 3, 172]
abbrev dktJ21_canEncode_0 : List UInt8 := dkwJ21_canEncode_0 ++ []
theorem dksJ21_canEncode_0 : cJ21_canEncode.data.toList.drop 0 = dktJ21_canEncode_0 := by decide +kernel
theorem dJ21_canEncode_0 : decode cJ21_canEncode 0 = .ok (.iload_n 0, 1) := dk_26 (dk_at dksJ21_canEncode_0 0 rfl rfl)
theorem dJ21_canEncode_1 : decode cJ21_canEncode 1 = .ok (.sipush 255, 3) := dk_17 0 255 (dk_at dksJ21_canEncode_0 1 rfl rfl)
theorem dJ21_canEncode_4 : decode cJ21_canEncode 4 = .ok (.if_icmp .gt 7, 3) := dk_163 0 7 (dk_at dksJ21_canEncode_0 4 rfl rfl)
theorem dJ21_canEncode_7 : decode cJ21_canEncode 7 = .ok (.iconst 1, 1) := dk_4 (dk_at dksJ21_canEncode_0 7 rfl rfl)
theorem dJ21_canEncode_8 : decode cJ21_canEncode 8 = .ok (.goto 4, 3) := dk_167 0 4 (dk_at dksJ21_canEncode_0 8 rfl rfl)
theorem dJ21_canEncode_11 : decode cJ21_canEncode 11 = .ok (.iconst 0, 1) := dk_3 (dk_at dksJ21_canEncode_0 11 rfl rfl)
theorem dJ21_canEncode_12 : decode cJ21_canEncode 12 = .ok (.ireturn, 1) := dk_172 (dk_at dksJ21_canEncode_0 12 rfl rfl)
abbrev iJ21_canEncode : xM := (yJ21_canEncode, cJ21_canEncode, 1, (some .boolean), [])
theorem mJ21_canEncode : xOkM iJ21_canEncode := ⟨by decide +kernel, by decide, q788, q155⟩
abbrev cJ21_charAt : ByteArray := prog_42_method_2_code
def yJ21_charAt : MethodName := ⟨RJ21, "charAt", "([BI)C"⟩
def dkwJ21_charAt_0 : List UInt8 := [27, 42, 190, 184, 0, 9, 42, 27, 51, 17, 0, 255, 126, 146, 172]
abbrev dktJ21_charAt_0 : List UInt8 := dkwJ21_charAt_0 ++ []
theorem dksJ21_charAt_0 : cJ21_charAt.data.toList.drop 0 = dktJ21_charAt_0 := by decide +kernel
theorem dJ21_charAt_0 : decode cJ21_charAt 0 = .ok (.iload_n 1, 1) := dk_27 (dk_at dksJ21_charAt_0 0 rfl rfl)
theorem dJ21_charAt_1 : decode cJ21_charAt 1 = .ok (.aload_n 0, 1) := dk_42 (dk_at dksJ21_charAt_0 1 rfl rfl)
theorem dJ21_charAt_2 : decode cJ21_charAt 2 = .ok (.arraylength, 1) := dk_190 (dk_at dksJ21_charAt_0 2 rfl rfl)
theorem dJ21_charAt_3 : decode cJ21_charAt 3 = .ok (.invokestatic 9, 3) := dk_184 0 9 (dk_at dksJ21_charAt_0 3 rfl rfl)
theorem dJ21_charAt_6 : decode cJ21_charAt 6 = .ok (.aload_n 0, 1) := dk_42 (dk_at dksJ21_charAt_0 6 rfl rfl)
theorem dJ21_charAt_7 : decode cJ21_charAt 7 = .ok (.iload_n 1, 1) := dk_27 (dk_at dksJ21_charAt_0 7 rfl rfl)
theorem dJ21_charAt_8 : decode cJ21_charAt 8 = .ok (.baload, 1) := dk_51 (dk_at dksJ21_charAt_0 8 rfl rfl)
theorem dJ21_charAt_9 : decode cJ21_charAt 9 = .ok (.sipush 255, 3) := dk_17 0 255 (dk_at dksJ21_charAt_0 9 rfl rfl)
theorem dJ21_charAt_12 : decode cJ21_charAt 12 = .ok (.iand, 1) := dk_126 (dk_at dksJ21_charAt_0 12 rfl rfl)
theorem dJ21_charAt_13 : decode cJ21_charAt 13 = .ok (.i2c, 1) := dk_146 (dk_at dksJ21_charAt_0 13 rfl rfl)
theorem dJ21_charAt_14 : decode cJ21_charAt 14 = .ok (.ireturn, 1) := dk_172 (dk_at dksJ21_charAt_0 14 rfl rfl)
abbrev iJ21_charAt : xM := (yJ21_charAt, cJ21_charAt, 2, (some .char), [])
theorem mJ21_charAt : xOkM iJ21_charAt := ⟨by decide +kernel, by decide, q922, q155⟩
abbrev cJ21_hashCode : ByteArray := prog_42_method_21_code
def yJ21_hashCode : MethodName := ⟨RJ21, "hashCode", "([B)I"⟩
def dkwJ21_hashCode_2 : List UInt8 := [3, 167, 0, 22, 42, 3, 51, 17, 0, 255, 126, 167, 0, 12, 42, 3, 42, 190, 3, 7, 184, 0, 84, 172]
abbrev dktJ21_hashCode_2 : List UInt8 := dkwJ21_hashCode_2 ++ []
def dkwJ21_hashCode_1 : List UInt8 := [171, 0, 0, 0, 0, 40, 0, 0, 0, 2, 0, 0, 0, 0, 0, 0, 0, 26, 0, 0, 0, 1, 0, 0, 0, 30]
abbrev dktJ21_hashCode_1 : List UInt8 := dkwJ21_hashCode_1 ++ dktJ21_hashCode_2
def dkwJ21_hashCode_0 : List UInt8 := [42, 190]
abbrev dktJ21_hashCode_0 : List UInt8 := dkwJ21_hashCode_0 ++ dktJ21_hashCode_1
theorem dksJ21_hashCode_0 : cJ21_hashCode.data.toList.drop 0 = dktJ21_hashCode_0 := by decide +kernel
theorem dksJ21_hashCode_1 : cJ21_hashCode.data.toList.drop 2 = dktJ21_hashCode_1 := dk_seg dksJ21_hashCode_0 2 rfl rfl
theorem dksJ21_hashCode_2 : cJ21_hashCode.data.toList.drop 28 = dktJ21_hashCode_2 := dk_seg dksJ21_hashCode_1 26 rfl rfl
theorem dJ21_hashCode_0 : decode cJ21_hashCode 0 = .ok (.aload_n 0, 1) := dk_42 (dk_at dksJ21_hashCode_0 0 rfl rfl)
theorem dJ21_hashCode_1 : decode cJ21_hashCode 1 = .ok (.arraylength, 1) := dk_190 (dk_at dksJ21_hashCode_0 1 rfl rfl)
theorem dJ21_hashCode_2 : decode cJ21_hashCode 2 = .ok (.lookupswitch 40 #[(0, 26), (1, 30)], 26) := by decide +kernel
theorem dJ21_hashCode_28 : decode cJ21_hashCode 28 = .ok (.iconst 0, 1) := dk_3 (dk_at dksJ21_hashCode_2 0 rfl rfl)
theorem dJ21_hashCode_29 : decode cJ21_hashCode 29 = .ok (.goto 22, 3) := dk_167 0 22 (dk_at dksJ21_hashCode_2 1 rfl rfl)
theorem dJ21_hashCode_32 : decode cJ21_hashCode 32 = .ok (.aload_n 0, 1) := dk_42 (dk_at dksJ21_hashCode_2 4 rfl rfl)
theorem dJ21_hashCode_33 : decode cJ21_hashCode 33 = .ok (.iconst 0, 1) := dk_3 (dk_at dksJ21_hashCode_2 5 rfl rfl)
theorem dJ21_hashCode_34 : decode cJ21_hashCode 34 = .ok (.baload, 1) := dk_51 (dk_at dksJ21_hashCode_2 6 rfl rfl)
theorem dJ21_hashCode_35 : decode cJ21_hashCode 35 = .ok (.sipush 255, 3) := dk_17 0 255 (dk_at dksJ21_hashCode_2 7 rfl rfl)
theorem dJ21_hashCode_38 : decode cJ21_hashCode 38 = .ok (.iand, 1) := dk_126 (dk_at dksJ21_hashCode_2 10 rfl rfl)
theorem dJ21_hashCode_39 : decode cJ21_hashCode 39 = .ok (.goto 12, 3) := dk_167 0 12 (dk_at dksJ21_hashCode_2 11 rfl rfl)
theorem dJ21_hashCode_42 : decode cJ21_hashCode 42 = .ok (.aload_n 0, 1) := dk_42 (dk_at dksJ21_hashCode_2 14 rfl rfl)
theorem dJ21_hashCode_43 : decode cJ21_hashCode 43 = .ok (.iconst 0, 1) := dk_3 (dk_at dksJ21_hashCode_2 15 rfl rfl)
theorem dJ21_hashCode_44 : decode cJ21_hashCode 44 = .ok (.aload_n 0, 1) := dk_42 (dk_at dksJ21_hashCode_2 16 rfl rfl)
theorem dJ21_hashCode_45 : decode cJ21_hashCode 45 = .ok (.arraylength, 1) := dk_190 (dk_at dksJ21_hashCode_2 17 rfl rfl)
theorem dJ21_hashCode_46 : decode cJ21_hashCode 46 = .ok (.iconst 0, 1) := dk_3 (dk_at dksJ21_hashCode_2 18 rfl rfl)
theorem dJ21_hashCode_47 : decode cJ21_hashCode 47 = .ok (.iconst 4, 1) := dk_7 (dk_at dksJ21_hashCode_2 19 rfl rfl)
theorem dJ21_hashCode_48 : decode cJ21_hashCode 48 = .ok (.invokestatic 84, 3) := dk_184 0 84 (dk_at dksJ21_hashCode_2 20 rfl rfl)
theorem dJ21_hashCode_51 : decode cJ21_hashCode 51 = .ok (.ireturn, 1) := dk_172 (dk_at dksJ21_hashCode_2 23 rfl rfl)
abbrev iJ21_hashCode : xM := (yJ21_hashCode, cJ21_hashCode, 1, (some .int), [])
theorem mJ21_hashCode : xOkM iJ21_hashCode := ⟨by decide +kernel, by decide, q1400, q155⟩
abbrev cJ21_compareTo : ByteArray := prog_42_method_14_code
def yJ21_compareTo : MethodName := ⟨RJ21, "compareTo", "([B[B)I"⟩
def dkwJ21_compareTo_0 : List UInt8 := [42, 190, 61, 43, 190, 62, 42, 43, 28, 29, 184, 0, 34, 172]
abbrev dktJ21_compareTo_0 : List UInt8 := dkwJ21_compareTo_0 ++ []
theorem dksJ21_compareTo_0 : cJ21_compareTo.data.toList.drop 0 = dktJ21_compareTo_0 := by decide +kernel
theorem dJ21_compareTo_0 : decode cJ21_compareTo 0 = .ok (.aload_n 0, 1) := dk_42 (dk_at dksJ21_compareTo_0 0 rfl rfl)
theorem dJ21_compareTo_1 : decode cJ21_compareTo 1 = .ok (.arraylength, 1) := dk_190 (dk_at dksJ21_compareTo_0 1 rfl rfl)
theorem dJ21_compareTo_2 : decode cJ21_compareTo 2 = .ok (.istore_n 2, 1) := dk_61 (dk_at dksJ21_compareTo_0 2 rfl rfl)
theorem dJ21_compareTo_3 : decode cJ21_compareTo 3 = .ok (.aload_n 1, 1) := dk_43 (dk_at dksJ21_compareTo_0 3 rfl rfl)
theorem dJ21_compareTo_4 : decode cJ21_compareTo 4 = .ok (.arraylength, 1) := dk_190 (dk_at dksJ21_compareTo_0 4 rfl rfl)
theorem dJ21_compareTo_5 : decode cJ21_compareTo 5 = .ok (.istore_n 3, 1) := dk_62 (dk_at dksJ21_compareTo_0 5 rfl rfl)
theorem dJ21_compareTo_6 : decode cJ21_compareTo 6 = .ok (.aload_n 0, 1) := dk_42 (dk_at dksJ21_compareTo_0 6 rfl rfl)
theorem dJ21_compareTo_7 : decode cJ21_compareTo 7 = .ok (.aload_n 1, 1) := dk_43 (dk_at dksJ21_compareTo_0 7 rfl rfl)
theorem dJ21_compareTo_8 : decode cJ21_compareTo 8 = .ok (.iload_n 2, 1) := dk_28 (dk_at dksJ21_compareTo_0 8 rfl rfl)
theorem dJ21_compareTo_9 : decode cJ21_compareTo 9 = .ok (.iload_n 3, 1) := dk_29 (dk_at dksJ21_compareTo_0 9 rfl rfl)
theorem dJ21_compareTo_10 : decode cJ21_compareTo 10 = .ok (.invokestatic 34, 3) := dk_184 0 34 (dk_at dksJ21_compareTo_0 10 rfl rfl)
theorem dJ21_compareTo_13 : decode cJ21_compareTo 13 = .ok (.ireturn, 1) := dk_172 (dk_at dksJ21_compareTo_0 13 rfl rfl)
abbrev iJ21_compareTo : xM := (yJ21_compareTo, cJ21_compareTo, 4, (some .int), [])
theorem mJ21_compareTo : xOkM iJ21_compareTo := ⟨by decide +kernel, by decide, q1606, q155⟩
abbrev cJ21_compareTo_2 : ByteArray := prog_42_method_15_code
def yJ21_compareTo_2 : MethodName := ⟨RJ21, "compareTo", "([B[BII)I"⟩
def dkwJ21_compareTo_2_1 : List UInt8 := [167, 0, 16, 42, 21, 5, 184, 0, 50, 43, 21, 5, 184, 0, 50, 100, 172]
abbrev dktJ21_compareTo_2_1 : List UInt8 := dkwJ21_compareTo_2_1 ++ []
def dkwJ21_compareTo_2_0 : List UInt8 := [28, 29, 184, 0, 38, 54, 4, 42, 43, 21, 4, 184, 0, 44, 54, 5, 21, 5, 156, 0, 9, 28, 29, 100]
abbrev dktJ21_compareTo_2_0 : List UInt8 := dkwJ21_compareTo_2_0 ++ dktJ21_compareTo_2_1
theorem dksJ21_compareTo_2_0 : cJ21_compareTo_2.data.toList.drop 0 = dktJ21_compareTo_2_0 := by decide +kernel
theorem dksJ21_compareTo_2_1 : cJ21_compareTo_2.data.toList.drop 24 = dktJ21_compareTo_2_1 := dk_seg dksJ21_compareTo_2_0 24 rfl rfl
theorem dJ21_compareTo_2_0 : decode cJ21_compareTo_2 0 = .ok (.iload_n 2, 1) := dk_28 (dk_at dksJ21_compareTo_2_0 0 rfl rfl)
theorem dJ21_compareTo_2_1 : decode cJ21_compareTo_2 1 = .ok (.iload_n 3, 1) := dk_29 (dk_at dksJ21_compareTo_2_0 1 rfl rfl)
theorem dJ21_compareTo_2_2 : decode cJ21_compareTo_2 2 = .ok (.invokestatic 38, 3) := dk_184 0 38 (dk_at dksJ21_compareTo_2_0 2 rfl rfl)
theorem dJ21_compareTo_2_5 : decode cJ21_compareTo_2 5 = .ok (.istore 4, 2) := dk_54 4 (dk_at dksJ21_compareTo_2_0 5 rfl rfl)
theorem dJ21_compareTo_2_7 : decode cJ21_compareTo_2 7 = .ok (.aload_n 0, 1) := dk_42 (dk_at dksJ21_compareTo_2_0 7 rfl rfl)
theorem dJ21_compareTo_2_8 : decode cJ21_compareTo_2 8 = .ok (.aload_n 1, 1) := dk_43 (dk_at dksJ21_compareTo_2_0 8 rfl rfl)
theorem dJ21_compareTo_2_9 : decode cJ21_compareTo_2 9 = .ok (.iload 4, 2) := dk_21 4 (dk_at dksJ21_compareTo_2_0 9 rfl rfl)
theorem dJ21_compareTo_2_11 : decode cJ21_compareTo_2 11 = .ok (.invokestatic 44, 3) := dk_184 0 44 (dk_at dksJ21_compareTo_2_0 11 rfl rfl)
theorem dJ21_compareTo_2_14 : decode cJ21_compareTo_2 14 = .ok (.istore 5, 2) := dk_54 5 (dk_at dksJ21_compareTo_2_0 14 rfl rfl)
theorem dJ21_compareTo_2_16 : decode cJ21_compareTo_2 16 = .ok (.iload 5, 2) := dk_21 5 (dk_at dksJ21_compareTo_2_0 16 rfl rfl)
theorem dJ21_compareTo_2_18 : decode cJ21_compareTo_2 18 = .ok (.ifCond .ge 9, 3) := dk_156 0 9 (dk_at dksJ21_compareTo_2_0 18 rfl rfl)
theorem dJ21_compareTo_2_21 : decode cJ21_compareTo_2 21 = .ok (.iload_n 2, 1) := dk_28 (dk_at dksJ21_compareTo_2_0 21 rfl rfl)
theorem dJ21_compareTo_2_22 : decode cJ21_compareTo_2 22 = .ok (.iload_n 3, 1) := dk_29 (dk_at dksJ21_compareTo_2_0 22 rfl rfl)
theorem dJ21_compareTo_2_23 : decode cJ21_compareTo_2 23 = .ok (.isub, 1) := dk_100 (dk_at dksJ21_compareTo_2_0 23 rfl rfl)
theorem dJ21_compareTo_2_24 : decode cJ21_compareTo_2 24 = .ok (.goto 16, 3) := dk_167 0 16 (dk_at dksJ21_compareTo_2_1 0 rfl rfl)
theorem dJ21_compareTo_2_27 : decode cJ21_compareTo_2 27 = .ok (.aload_n 0, 1) := dk_42 (dk_at dksJ21_compareTo_2_1 3 rfl rfl)
theorem dJ21_compareTo_2_28 : decode cJ21_compareTo_2 28 = .ok (.iload 5, 2) := dk_21 5 (dk_at dksJ21_compareTo_2_1 4 rfl rfl)
theorem dJ21_compareTo_2_30 : decode cJ21_compareTo_2 30 = .ok (.invokestatic 50, 3) := dk_184 0 50 (dk_at dksJ21_compareTo_2_1 6 rfl rfl)
theorem dJ21_compareTo_2_33 : decode cJ21_compareTo_2 33 = .ok (.aload_n 1, 1) := dk_43 (dk_at dksJ21_compareTo_2_1 9 rfl rfl)
theorem dJ21_compareTo_2_34 : decode cJ21_compareTo_2 34 = .ok (.iload 5, 2) := dk_21 5 (dk_at dksJ21_compareTo_2_1 10 rfl rfl)
theorem dJ21_compareTo_2_36 : decode cJ21_compareTo_2 36 = .ok (.invokestatic 50, 3) := dk_184 0 50 (dk_at dksJ21_compareTo_2_1 12 rfl rfl)
theorem dJ21_compareTo_2_39 : decode cJ21_compareTo_2 39 = .ok (.isub, 1) := dk_100 (dk_at dksJ21_compareTo_2_1 15 rfl rfl)
theorem dJ21_compareTo_2_40 : decode cJ21_compareTo_2 40 = .ok (.ireturn, 1) := dk_172 (dk_at dksJ21_compareTo_2_1 16 rfl rfl)
abbrev iJ21_compareTo_2 : xM := (yJ21_compareTo_2, cJ21_compareTo_2, 6, (some .int), [])
theorem mJ21_compareTo_2 : xOkM iJ21_compareTo_2 := ⟨by decide +kernel, by decide, q1609, q155⟩
abbrev cJ21_getChar : ByteArray := prog_42_method_44_code
def yJ21_getChar : MethodName := ⟨RJ21, "getChar", "([BI)C"⟩
def dkwJ21_getChar_0 : List UInt8 := [42, 27, 51, 17, 0, 255, 126, 146, 172]
abbrev dktJ21_getChar_0 : List UInt8 := dkwJ21_getChar_0 ++ []
theorem dksJ21_getChar_0 : cJ21_getChar.data.toList.drop 0 = dktJ21_getChar_0 := by decide +kernel
theorem dJ21_getChar_0 : decode cJ21_getChar 0 = .ok (.aload_n 0, 1) := dk_42 (dk_at dksJ21_getChar_0 0 rfl rfl)
theorem dJ21_getChar_1 : decode cJ21_getChar 1 = .ok (.iload_n 1, 1) := dk_27 (dk_at dksJ21_getChar_0 1 rfl rfl)
theorem dJ21_getChar_2 : decode cJ21_getChar 2 = .ok (.baload, 1) := dk_51 (dk_at dksJ21_getChar_0 2 rfl rfl)
theorem dJ21_getChar_3 : decode cJ21_getChar 3 = .ok (.sipush 255, 3) := dk_17 0 255 (dk_at dksJ21_getChar_0 3 rfl rfl)
theorem dJ21_getChar_6 : decode cJ21_getChar 6 = .ok (.iand, 1) := dk_126 (dk_at dksJ21_getChar_0 6 rfl rfl)
theorem dJ21_getChar_7 : decode cJ21_getChar 7 = .ok (.i2c, 1) := dk_146 (dk_at dksJ21_getChar_0 7 rfl rfl)
theorem dJ21_getChar_8 : decode cJ21_getChar 8 = .ok (.ireturn, 1) := dk_172 (dk_at dksJ21_getChar_0 8 rfl rfl)
abbrev iJ21_getChar : xM := (yJ21_getChar, cJ21_getChar, 2, (some .char), [])
theorem mJ21_getChar : xOkM iJ21_getChar := ⟨by decide +kernel, by decide, q1714, q155⟩
abbrev cJ21_compareToUTF16 : ByteArray := prog_42_method_16_code
def yJ21_compareToUTF16 : MethodName := ⟨RJ21, "compareToUTF16", "([B[B)I"⟩
def dkwJ21_compareToUTF16_0 : List UInt8 := [42, 184, 0, 54, 61, 43, 184, 0, 58, 62, 42, 43, 28, 29, 184, 0, 59, 172]
abbrev dktJ21_compareToUTF16_0 : List UInt8 := dkwJ21_compareToUTF16_0 ++ []
theorem dksJ21_compareToUTF16_0 : cJ21_compareToUTF16.data.toList.drop 0 = dktJ21_compareToUTF16_0 := by decide +kernel
theorem dJ21_compareToUTF16_0 : decode cJ21_compareToUTF16 0 = .ok (.aload_n 0, 1) := dk_42 (dk_at dksJ21_compareToUTF16_0 0 rfl rfl)
theorem dJ21_compareToUTF16_1 : decode cJ21_compareToUTF16 1 = .ok (.invokestatic 54, 3) := dk_184 0 54 (dk_at dksJ21_compareToUTF16_0 1 rfl rfl)
theorem dJ21_compareToUTF16_4 : decode cJ21_compareToUTF16 4 = .ok (.istore_n 2, 1) := dk_61 (dk_at dksJ21_compareToUTF16_0 4 rfl rfl)
theorem dJ21_compareToUTF16_5 : decode cJ21_compareToUTF16 5 = .ok (.aload_n 1, 1) := dk_43 (dk_at dksJ21_compareToUTF16_0 5 rfl rfl)
theorem dJ21_compareToUTF16_6 : decode cJ21_compareToUTF16 6 = .ok (.invokestatic 58, 3) := dk_184 0 58 (dk_at dksJ21_compareToUTF16_0 6 rfl rfl)
theorem dJ21_compareToUTF16_9 : decode cJ21_compareToUTF16 9 = .ok (.istore_n 3, 1) := dk_62 (dk_at dksJ21_compareToUTF16_0 9 rfl rfl)
theorem dJ21_compareToUTF16_10 : decode cJ21_compareToUTF16 10 = .ok (.aload_n 0, 1) := dk_42 (dk_at dksJ21_compareToUTF16_0 10 rfl rfl)
theorem dJ21_compareToUTF16_11 : decode cJ21_compareToUTF16 11 = .ok (.aload_n 1, 1) := dk_43 (dk_at dksJ21_compareToUTF16_0 11 rfl rfl)
theorem dJ21_compareToUTF16_12 : decode cJ21_compareToUTF16 12 = .ok (.iload_n 2, 1) := dk_28 (dk_at dksJ21_compareToUTF16_0 12 rfl rfl)
theorem dJ21_compareToUTF16_13 : decode cJ21_compareToUTF16 13 = .ok (.iload_n 3, 1) := dk_29 (dk_at dksJ21_compareToUTF16_0 13 rfl rfl)
theorem dJ21_compareToUTF16_14 : decode cJ21_compareToUTF16 14 = .ok (.invokestatic 59, 3) := dk_184 0 59 (dk_at dksJ21_compareToUTF16_0 14 rfl rfl)
theorem dJ21_compareToUTF16_17 : decode cJ21_compareToUTF16 17 = .ok (.ireturn, 1) := dk_172 (dk_at dksJ21_compareToUTF16_0 17 rfl rfl)
abbrev iJ21_compareToUTF16 : xM := (yJ21_compareToUTF16, cJ21_compareToUTF16, 4, (some .int), [])
theorem mJ21_compareToUTF16 : xOkM iJ21_compareToUTF16 := ⟨by decide +kernel, by decide, q1724, q155⟩
abbrev cJ21_length : ByteArray := prog_42_method_5_code
def yJ21_length : MethodName := ⟨RJ21, "length", "([B)I"⟩
theorem dJ21_length_0 : decode cJ21_length 0 = .ok (.aload_n 0, 1) := by decide +kernel
theorem dJ21_length_1 : decode cJ21_length 1 = .ok (.arraylength, 1) := by decide +kernel
theorem dJ21_length_2 : decode cJ21_length 2 = .ok (.ireturn, 1) := by decide +kernel
abbrev iJ21_length : xM := (yJ21_length, cJ21_length, 1, (some .int), [])
theorem mJ21_length : xOkM iJ21_length := ⟨by decide +kernel, by decide, q1727, q155⟩
abbrev cJ21_compareToUTF16Values : ByteArray := prog_42_method_18_code
def yJ21_compareToUTF16Values : MethodName := ⟨RJ21, "compareToUTF16Values", "([B[BII)I"⟩
def dkwJ21_compareToUTF16Values_2 : List UInt8 := [132, 5, 1, 167, 255, 217, 28, 29, 100, 172]
abbrev dktJ21_compareToUTF16Values_2 : List UInt8 := dkwJ21_compareToUTF16Values_2 ++ []
def dkwJ21_compareToUTF16Values_1 : List UInt8 := [54, 6, 43, 21, 5, 184, 0, 65, 54, 7, 21, 6, 21, 7, 159, 0, 9, 21, 6, 21, 7, 100, 172]
abbrev dktJ21_compareToUTF16Values_1 : List UInt8 := dkwJ21_compareToUTF16Values_1 ++ dktJ21_compareToUTF16Values_2
def dkwJ21_compareToUTF16Values_0 : List UInt8 := [28, 29, 184, 0, 38, 54, 4, 3, 54, 5, 21, 5, 21, 4, 162, 0, 38, 42, 21, 5, 184, 0, 50]
abbrev dktJ21_compareToUTF16Values_0 : List UInt8 := dkwJ21_compareToUTF16Values_0 ++ dktJ21_compareToUTF16Values_1
theorem dksJ21_compareToUTF16Values_0 : cJ21_compareToUTF16Values.data.toList.drop 0 = dktJ21_compareToUTF16Values_0 := by decide +kernel
theorem dksJ21_compareToUTF16Values_1 : cJ21_compareToUTF16Values.data.toList.drop 23 = dktJ21_compareToUTF16Values_1 := dk_seg dksJ21_compareToUTF16Values_0 23 rfl rfl
theorem dksJ21_compareToUTF16Values_2 : cJ21_compareToUTF16Values.data.toList.drop 46 = dktJ21_compareToUTF16Values_2 := dk_seg dksJ21_compareToUTF16Values_1 23 rfl rfl
theorem dJ21_compareToUTF16Values_0 : decode cJ21_compareToUTF16Values 0 = .ok (.iload_n 2, 1) := dk_28 (dk_at dksJ21_compareToUTF16Values_0 0 rfl rfl)
theorem dJ21_compareToUTF16Values_1 : decode cJ21_compareToUTF16Values 1 = .ok (.iload_n 3, 1) := dk_29 (dk_at dksJ21_compareToUTF16Values_0 1 rfl rfl)
theorem dJ21_compareToUTF16Values_2 : decode cJ21_compareToUTF16Values 2 = .ok (.invokestatic 38, 3) := dk_184 0 38 (dk_at dksJ21_compareToUTF16Values_0 2 rfl rfl)
theorem dJ21_compareToUTF16Values_5 : decode cJ21_compareToUTF16Values 5 = .ok (.istore 4, 2) := dk_54 4 (dk_at dksJ21_compareToUTF16Values_0 5 rfl rfl)
theorem dJ21_compareToUTF16Values_7 : decode cJ21_compareToUTF16Values 7 = .ok (.iconst 0, 1) := dk_3 (dk_at dksJ21_compareToUTF16Values_0 7 rfl rfl)
theorem dJ21_compareToUTF16Values_8 : decode cJ21_compareToUTF16Values 8 = .ok (.istore 5, 2) := dk_54 5 (dk_at dksJ21_compareToUTF16Values_0 8 rfl rfl)
theorem dJ21_compareToUTF16Values_10 : decode cJ21_compareToUTF16Values 10 = .ok (.iload 5, 2) := dk_21 5 (dk_at dksJ21_compareToUTF16Values_0 10 rfl rfl)
theorem dJ21_compareToUTF16Values_12 : decode cJ21_compareToUTF16Values 12 = .ok (.iload 4, 2) := dk_21 4 (dk_at dksJ21_compareToUTF16Values_0 12 rfl rfl)
theorem dJ21_compareToUTF16Values_14 : decode cJ21_compareToUTF16Values 14 = .ok (.if_icmp .ge 38, 3) := dk_162 0 38 (dk_at dksJ21_compareToUTF16Values_0 14 rfl rfl)
theorem dJ21_compareToUTF16Values_17 : decode cJ21_compareToUTF16Values 17 = .ok (.aload_n 0, 1) := dk_42 (dk_at dksJ21_compareToUTF16Values_0 17 rfl rfl)
theorem dJ21_compareToUTF16Values_18 : decode cJ21_compareToUTF16Values 18 = .ok (.iload 5, 2) := dk_21 5 (dk_at dksJ21_compareToUTF16Values_0 18 rfl rfl)
theorem dJ21_compareToUTF16Values_20 : decode cJ21_compareToUTF16Values 20 = .ok (.invokestatic 50, 3) := dk_184 0 50 (dk_at dksJ21_compareToUTF16Values_0 20 rfl rfl)
theorem dJ21_compareToUTF16Values_23 : decode cJ21_compareToUTF16Values 23 = .ok (.istore 6, 2) := dk_54 6 (dk_at dksJ21_compareToUTF16Values_1 0 rfl rfl)
theorem dJ21_compareToUTF16Values_25 : decode cJ21_compareToUTF16Values 25 = .ok (.aload_n 1, 1) := dk_43 (dk_at dksJ21_compareToUTF16Values_1 2 rfl rfl)
theorem dJ21_compareToUTF16Values_26 : decode cJ21_compareToUTF16Values 26 = .ok (.iload 5, 2) := dk_21 5 (dk_at dksJ21_compareToUTF16Values_1 3 rfl rfl)
theorem dJ21_compareToUTF16Values_28 : decode cJ21_compareToUTF16Values 28 = .ok (.invokestatic 65, 3) := dk_184 0 65 (dk_at dksJ21_compareToUTF16Values_1 5 rfl rfl)
theorem dJ21_compareToUTF16Values_31 : decode cJ21_compareToUTF16Values 31 = .ok (.istore 7, 2) := dk_54 7 (dk_at dksJ21_compareToUTF16Values_1 8 rfl rfl)
theorem dJ21_compareToUTF16Values_33 : decode cJ21_compareToUTF16Values 33 = .ok (.iload 6, 2) := dk_21 6 (dk_at dksJ21_compareToUTF16Values_1 10 rfl rfl)
theorem dJ21_compareToUTF16Values_35 : decode cJ21_compareToUTF16Values 35 = .ok (.iload 7, 2) := dk_21 7 (dk_at dksJ21_compareToUTF16Values_1 12 rfl rfl)
theorem dJ21_compareToUTF16Values_37 : decode cJ21_compareToUTF16Values 37 = .ok (.if_icmp .eq 9, 3) := dk_159 0 9 (dk_at dksJ21_compareToUTF16Values_1 14 rfl rfl)
theorem dJ21_compareToUTF16Values_40 : decode cJ21_compareToUTF16Values 40 = .ok (.iload 6, 2) := dk_21 6 (dk_at dksJ21_compareToUTF16Values_1 17 rfl rfl)
theorem dJ21_compareToUTF16Values_42 : decode cJ21_compareToUTF16Values 42 = .ok (.iload 7, 2) := dk_21 7 (dk_at dksJ21_compareToUTF16Values_1 19 rfl rfl)
theorem dJ21_compareToUTF16Values_44 : decode cJ21_compareToUTF16Values 44 = .ok (.isub, 1) := dk_100 (dk_at dksJ21_compareToUTF16Values_1 21 rfl rfl)
theorem dJ21_compareToUTF16Values_45 : decode cJ21_compareToUTF16Values 45 = .ok (.ireturn, 1) := dk_172 (dk_at dksJ21_compareToUTF16Values_1 22 rfl rfl)
theorem dJ21_compareToUTF16Values_46 : decode cJ21_compareToUTF16Values 46 = .ok (.iinc 5 1, 3) := dk_132 5 1 (dk_at dksJ21_compareToUTF16Values_2 0 rfl rfl)
theorem dJ21_compareToUTF16Values_49 : decode cJ21_compareToUTF16Values 49 = .ok (.goto (-39), 3) := dk_167 255 217 (dk_at dksJ21_compareToUTF16Values_2 3 rfl rfl)
theorem dJ21_compareToUTF16Values_52 : decode cJ21_compareToUTF16Values 52 = .ok (.iload_n 2, 1) := dk_28 (dk_at dksJ21_compareToUTF16Values_2 6 rfl rfl)
theorem dJ21_compareToUTF16Values_53 : decode cJ21_compareToUTF16Values 53 = .ok (.iload_n 3, 1) := dk_29 (dk_at dksJ21_compareToUTF16Values_2 7 rfl rfl)
theorem dJ21_compareToUTF16Values_54 : decode cJ21_compareToUTF16Values 54 = .ok (.isub, 1) := dk_100 (dk_at dksJ21_compareToUTF16Values_2 8 rfl rfl)
theorem dJ21_compareToUTF16Values_55 : decode cJ21_compareToUTF16Values 55 = .ok (.ireturn, 1) := dk_172 (dk_at dksJ21_compareToUTF16Values_2 9 rfl rfl)
abbrev iJ21_compareToUTF16Values : xM := (yJ21_compareToUTF16Values, cJ21_compareToUTF16Values, 8, (some .int), [])
theorem mJ21_compareToUTF16Values : xOkM iJ21_compareToUTF16Values := ⟨by decide +kernel, by decide, q1731, q155⟩
abbrev cJ21_compareToUTF16_2 : ByteArray := prog_42_method_17_code
def yJ21_compareToUTF16_2 : MethodName := ⟨RJ21, "compareToUTF16", "([B[BII)I"⟩
def dkwJ21_compareToUTF16_2_0 : List UInt8 := [28, 42, 184, 0, 54, 184, 0, 62, 29, 43, 184, 0, 58, 184, 0, 62, 42, 43, 28, 29, 184, 0, 59, 172]
abbrev dktJ21_compareToUTF16_2_0 : List UInt8 := dkwJ21_compareToUTF16_2_0 ++ []
theorem dksJ21_compareToUTF16_2_0 : cJ21_compareToUTF16_2.data.toList.drop 0 = dktJ21_compareToUTF16_2_0 := by decide +kernel
theorem dJ21_compareToUTF16_2_0 : decode cJ21_compareToUTF16_2 0 = .ok (.iload_n 2, 1) := dk_28 (dk_at dksJ21_compareToUTF16_2_0 0 rfl rfl)
theorem dJ21_compareToUTF16_2_1 : decode cJ21_compareToUTF16_2 1 = .ok (.aload_n 0, 1) := dk_42 (dk_at dksJ21_compareToUTF16_2_0 1 rfl rfl)
theorem dJ21_compareToUTF16_2_2 : decode cJ21_compareToUTF16_2 2 = .ok (.invokestatic 54, 3) := dk_184 0 54 (dk_at dksJ21_compareToUTF16_2_0 2 rfl rfl)
theorem dJ21_compareToUTF16_2_5 : decode cJ21_compareToUTF16_2 5 = .ok (.invokestatic 62, 3) := dk_184 0 62 (dk_at dksJ21_compareToUTF16_2_0 5 rfl rfl)
theorem dJ21_compareToUTF16_2_8 : decode cJ21_compareToUTF16_2 8 = .ok (.iload_n 3, 1) := dk_29 (dk_at dksJ21_compareToUTF16_2_0 8 rfl rfl)
theorem dJ21_compareToUTF16_2_9 : decode cJ21_compareToUTF16_2 9 = .ok (.aload_n 1, 1) := dk_43 (dk_at dksJ21_compareToUTF16_2_0 9 rfl rfl)
theorem dJ21_compareToUTF16_2_10 : decode cJ21_compareToUTF16_2 10 = .ok (.invokestatic 58, 3) := dk_184 0 58 (dk_at dksJ21_compareToUTF16_2_0 10 rfl rfl)
theorem dJ21_compareToUTF16_2_13 : decode cJ21_compareToUTF16_2 13 = .ok (.invokestatic 62, 3) := dk_184 0 62 (dk_at dksJ21_compareToUTF16_2_0 13 rfl rfl)
theorem dJ21_compareToUTF16_2_16 : decode cJ21_compareToUTF16_2 16 = .ok (.aload_n 0, 1) := dk_42 (dk_at dksJ21_compareToUTF16_2_0 16 rfl rfl)
theorem dJ21_compareToUTF16_2_17 : decode cJ21_compareToUTF16_2 17 = .ok (.aload_n 1, 1) := dk_43 (dk_at dksJ21_compareToUTF16_2_0 17 rfl rfl)
theorem dJ21_compareToUTF16_2_18 : decode cJ21_compareToUTF16_2 18 = .ok (.iload_n 2, 1) := dk_28 (dk_at dksJ21_compareToUTF16_2_0 18 rfl rfl)
theorem dJ21_compareToUTF16_2_19 : decode cJ21_compareToUTF16_2 19 = .ok (.iload_n 3, 1) := dk_29 (dk_at dksJ21_compareToUTF16_2_0 19 rfl rfl)
theorem dJ21_compareToUTF16_2_20 : decode cJ21_compareToUTF16_2 20 = .ok (.invokestatic 59, 3) := dk_184 0 59 (dk_at dksJ21_compareToUTF16_2_0 20 rfl rfl)
theorem dJ21_compareToUTF16_2_23 : decode cJ21_compareToUTF16_2 23 = .ok (.ireturn, 1) := dk_172 (dk_at dksJ21_compareToUTF16_2_0 23 rfl rfl)
abbrev iJ21_compareToUTF16_2 : xM := (yJ21_compareToUTF16_2, cJ21_compareToUTF16_2, 4, (some .int), [])
theorem mJ21_compareToUTF16_2 : xOkM iJ21_compareToUTF16_2 := ⟨by decide +kernel, by decide, q1763, q155⟩
abbrev cJ21_equals : ByteArray := prog_42_method_13_code
def yJ21_equals : MethodName := ⟨RJ21, "equals", "([B[B)Z"⟩
def dkwJ21_equals_1 : List UInt8 := [3, 172, 132, 2, 1, 167, 255, 236, 4, 172, 3, 172]
abbrev dktJ21_equals_1 : List UInt8 := dkwJ21_equals_1 ++ []
def dkwJ21_equals_0 : List UInt8 := [42, 190, 43, 190, 160, 0, 30, 3, 61, 28, 42, 190, 162, 0, 20, 42, 28, 51, 43, 28, 51, 159, 0, 5]
abbrev dktJ21_equals_0 : List UInt8 := dkwJ21_equals_0 ++ dktJ21_equals_1
theorem dksJ21_equals_0 : cJ21_equals.data.toList.drop 0 = dktJ21_equals_0 := by decide +kernel
theorem dksJ21_equals_1 : cJ21_equals.data.toList.drop 24 = dktJ21_equals_1 := dk_seg dksJ21_equals_0 24 rfl rfl
theorem dJ21_equals_0 : decode cJ21_equals 0 = .ok (.aload_n 0, 1) := dk_42 (dk_at dksJ21_equals_0 0 rfl rfl)
theorem dJ21_equals_1 : decode cJ21_equals 1 = .ok (.arraylength, 1) := dk_190 (dk_at dksJ21_equals_0 1 rfl rfl)
theorem dJ21_equals_2 : decode cJ21_equals 2 = .ok (.aload_n 1, 1) := dk_43 (dk_at dksJ21_equals_0 2 rfl rfl)
theorem dJ21_equals_3 : decode cJ21_equals 3 = .ok (.arraylength, 1) := dk_190 (dk_at dksJ21_equals_0 3 rfl rfl)
theorem dJ21_equals_4 : decode cJ21_equals 4 = .ok (.if_icmp .ne 30, 3) := dk_160 0 30 (dk_at dksJ21_equals_0 4 rfl rfl)
theorem dJ21_equals_7 : decode cJ21_equals 7 = .ok (.iconst 0, 1) := dk_3 (dk_at dksJ21_equals_0 7 rfl rfl)
theorem dJ21_equals_8 : decode cJ21_equals 8 = .ok (.istore_n 2, 1) := dk_61 (dk_at dksJ21_equals_0 8 rfl rfl)
theorem dJ21_equals_9 : decode cJ21_equals 9 = .ok (.iload_n 2, 1) := dk_28 (dk_at dksJ21_equals_0 9 rfl rfl)
theorem dJ21_equals_10 : decode cJ21_equals 10 = .ok (.aload_n 0, 1) := dk_42 (dk_at dksJ21_equals_0 10 rfl rfl)
theorem dJ21_equals_11 : decode cJ21_equals 11 = .ok (.arraylength, 1) := dk_190 (dk_at dksJ21_equals_0 11 rfl rfl)
theorem dJ21_equals_12 : decode cJ21_equals 12 = .ok (.if_icmp .ge 20, 3) := dk_162 0 20 (dk_at dksJ21_equals_0 12 rfl rfl)
theorem dJ21_equals_15 : decode cJ21_equals 15 = .ok (.aload_n 0, 1) := dk_42 (dk_at dksJ21_equals_0 15 rfl rfl)
theorem dJ21_equals_16 : decode cJ21_equals 16 = .ok (.iload_n 2, 1) := dk_28 (dk_at dksJ21_equals_0 16 rfl rfl)
theorem dJ21_equals_17 : decode cJ21_equals 17 = .ok (.baload, 1) := dk_51 (dk_at dksJ21_equals_0 17 rfl rfl)
theorem dJ21_equals_18 : decode cJ21_equals 18 = .ok (.aload_n 1, 1) := dk_43 (dk_at dksJ21_equals_0 18 rfl rfl)
theorem dJ21_equals_19 : decode cJ21_equals 19 = .ok (.iload_n 2, 1) := dk_28 (dk_at dksJ21_equals_0 19 rfl rfl)
theorem dJ21_equals_20 : decode cJ21_equals 20 = .ok (.baload, 1) := dk_51 (dk_at dksJ21_equals_0 20 rfl rfl)
theorem dJ21_equals_21 : decode cJ21_equals 21 = .ok (.if_icmp .eq 5, 3) := dk_159 0 5 (dk_at dksJ21_equals_0 21 rfl rfl)
theorem dJ21_equals_24 : decode cJ21_equals 24 = .ok (.iconst 0, 1) := dk_3 (dk_at dksJ21_equals_1 0 rfl rfl)
theorem dJ21_equals_25 : decode cJ21_equals 25 = .ok (.ireturn, 1) := dk_172 (dk_at dksJ21_equals_1 1 rfl rfl)
theorem dJ21_equals_26 : decode cJ21_equals 26 = .ok (.iinc 2 1, 3) := dk_132 2 1 (dk_at dksJ21_equals_1 2 rfl rfl)
theorem dJ21_equals_29 : decode cJ21_equals 29 = .ok (.goto (-20), 3) := dk_167 255 236 (dk_at dksJ21_equals_1 5 rfl rfl)
theorem dJ21_equals_32 : decode cJ21_equals 32 = .ok (.iconst 1, 1) := dk_4 (dk_at dksJ21_equals_1 8 rfl rfl)
theorem dJ21_equals_33 : decode cJ21_equals 33 = .ok (.ireturn, 1) := dk_172 (dk_at dksJ21_equals_1 9 rfl rfl)
theorem dJ21_equals_34 : decode cJ21_equals 34 = .ok (.iconst 0, 1) := dk_3 (dk_at dksJ21_equals_1 10 rfl rfl)
theorem dJ21_equals_35 : decode cJ21_equals 35 = .ok (.ireturn, 1) := dk_172 (dk_at dksJ21_equals_1 11 rfl rfl)
abbrev iJ21_equals : xM := (yJ21_equals, cJ21_equals, 3, (some .boolean), [])
theorem mJ21_equals : xOkM iJ21_equals := ⟨by decide +kernel, by decide, q1832, q155⟩
abbrev cJ21_fillNull : ByteArray := prog_42_method_48_code
def yJ21_fillNull : MethodName := ⟨RJ21, "fillNull", "([BII)V"⟩
def dkwJ21_fillNull_0 : List UInt8 := [42, 27, 28, 3, 184, 0, 236, 177]
abbrev dktJ21_fillNull_0 : List UInt8 := dkwJ21_fillNull_0 ++ []
theorem dksJ21_fillNull_0 : cJ21_fillNull.data.toList.drop 0 = dktJ21_fillNull_0 := by decide +kernel
theorem dJ21_fillNull_0 : decode cJ21_fillNull 0 = .ok (.aload_n 0, 1) := dk_42 (dk_at dksJ21_fillNull_0 0 rfl rfl)
theorem dJ21_fillNull_1 : decode cJ21_fillNull 1 = .ok (.iload_n 1, 1) := dk_27 (dk_at dksJ21_fillNull_0 1 rfl rfl)
theorem dJ21_fillNull_2 : decode cJ21_fillNull 2 = .ok (.iload_n 2, 1) := dk_28 (dk_at dksJ21_fillNull_0 2 rfl rfl)
theorem dJ21_fillNull_3 : decode cJ21_fillNull 3 = .ok (.iconst 0, 1) := dk_3 (dk_at dksJ21_fillNull_0 3 rfl rfl)
theorem dJ21_fillNull_4 : decode cJ21_fillNull 4 = .ok (.invokestatic 236, 3) := dk_184 0 236 (dk_at dksJ21_fillNull_0 4 rfl rfl)
theorem dJ21_fillNull_7 : decode cJ21_fillNull 7 = .ok (.return_, 1) := dk_177 (dk_at dksJ21_fillNull_0 7 rfl rfl)
abbrev iJ21_fillNull : xM := (yJ21_fillNull, cJ21_fillNull, 3, none, [])
theorem mJ21_fillNull : xOkM iJ21_fillNull := ⟨by decide +kernel, by decide, q3177, q155⟩
abbrev cJ22_init : ByteArray := prog_36_method_1_code
def yJ22_init : MethodName := ⟨RJ22, "<init>", "()V"⟩
theorem dJ22_init_0 : decode cJ22_init 0 = .ok (.aload_n 0, 1) := by decide +kernel
theorem dJ22_init_1 : decode cJ22_init 1 = .ok (.invokespecial 1, 3) := by decide +kernel
theorem dJ22_init_4 : decode cJ22_init 4 = .ok (.return_, 1) := by decide +kernel
abbrev iJ22_init : xM := (yJ22_init, cJ22_init, 1, none, [])
theorem mJ22_init : xOkM iJ22_init := ⟨by decide +kernel, by decide, q2953, q156⟩
abbrev cJ23_stringSize : ByteArray := prog_31_method_13_code
def yJ23_stringSize : MethodName := ⟨RJ23, "stringSize", "(I)I"⟩
def dkwJ23_stringSize_1 : List UInt8 := [164, 0, 7, 29, 27, 96, 172, 16, 10, 28, 104, 61, 132, 3, 1, 167, 255, 233, 16, 10, 27, 96, 172]
abbrev dktJ23_stringSize_1 : List UInt8 := dkwJ23_stringSize_1 ++ []
def dkwJ23_stringSize_0 : List UInt8 := [4, 60, 26, 155, 0, 8, 3, 60, 26, 116, 59, 16, 246, 61, 4, 62, 29, 16, 10, 162, 0, 23, 26, 28]
abbrev dktJ23_stringSize_0 : List UInt8 := dkwJ23_stringSize_0 ++ dktJ23_stringSize_1
theorem dksJ23_stringSize_0 : cJ23_stringSize.data.toList.drop 0 = dktJ23_stringSize_0 := by decide +kernel
theorem dksJ23_stringSize_1 : cJ23_stringSize.data.toList.drop 24 = dktJ23_stringSize_1 := dk_seg dksJ23_stringSize_0 24 rfl rfl
theorem dJ23_stringSize_0 : decode cJ23_stringSize 0 = .ok (.iconst 1, 1) := dk_4 (dk_at dksJ23_stringSize_0 0 rfl rfl)
theorem dJ23_stringSize_1 : decode cJ23_stringSize 1 = .ok (.istore_n 1, 1) := dk_60 (dk_at dksJ23_stringSize_0 1 rfl rfl)
theorem dJ23_stringSize_2 : decode cJ23_stringSize 2 = .ok (.iload_n 0, 1) := dk_26 (dk_at dksJ23_stringSize_0 2 rfl rfl)
theorem dJ23_stringSize_3 : decode cJ23_stringSize 3 = .ok (.ifCond .lt 8, 3) := dk_155 0 8 (dk_at dksJ23_stringSize_0 3 rfl rfl)
theorem dJ23_stringSize_6 : decode cJ23_stringSize 6 = .ok (.iconst 0, 1) := dk_3 (dk_at dksJ23_stringSize_0 6 rfl rfl)
theorem dJ23_stringSize_7 : decode cJ23_stringSize 7 = .ok (.istore_n 1, 1) := dk_60 (dk_at dksJ23_stringSize_0 7 rfl rfl)
theorem dJ23_stringSize_8 : decode cJ23_stringSize 8 = .ok (.iload_n 0, 1) := dk_26 (dk_at dksJ23_stringSize_0 8 rfl rfl)
theorem dJ23_stringSize_9 : decode cJ23_stringSize 9 = .ok (.ineg, 1) := dk_116 (dk_at dksJ23_stringSize_0 9 rfl rfl)
theorem dJ23_stringSize_10 : decode cJ23_stringSize 10 = .ok (.istore_n 0, 1) := dk_59 (dk_at dksJ23_stringSize_0 10 rfl rfl)
theorem dJ23_stringSize_11 : decode cJ23_stringSize 11 = .ok (.bipush (-10), 2) := dk_16 246 (dk_at dksJ23_stringSize_0 11 rfl rfl)
theorem dJ23_stringSize_13 : decode cJ23_stringSize 13 = .ok (.istore_n 2, 1) := dk_61 (dk_at dksJ23_stringSize_0 13 rfl rfl)
theorem dJ23_stringSize_14 : decode cJ23_stringSize 14 = .ok (.iconst 1, 1) := dk_4 (dk_at dksJ23_stringSize_0 14 rfl rfl)
theorem dJ23_stringSize_15 : decode cJ23_stringSize 15 = .ok (.istore_n 3, 1) := dk_62 (dk_at dksJ23_stringSize_0 15 rfl rfl)
theorem dJ23_stringSize_16 : decode cJ23_stringSize 16 = .ok (.iload_n 3, 1) := dk_29 (dk_at dksJ23_stringSize_0 16 rfl rfl)
theorem dJ23_stringSize_17 : decode cJ23_stringSize 17 = .ok (.bipush 10, 2) := dk_16 10 (dk_at dksJ23_stringSize_0 17 rfl rfl)
theorem dJ23_stringSize_19 : decode cJ23_stringSize 19 = .ok (.if_icmp .ge 23, 3) := dk_162 0 23 (dk_at dksJ23_stringSize_0 19 rfl rfl)
theorem dJ23_stringSize_22 : decode cJ23_stringSize 22 = .ok (.iload_n 0, 1) := dk_26 (dk_at dksJ23_stringSize_0 22 rfl rfl)
theorem dJ23_stringSize_23 : decode cJ23_stringSize 23 = .ok (.iload_n 2, 1) := dk_28 (dk_at dksJ23_stringSize_0 23 rfl rfl)
theorem dJ23_stringSize_24 : decode cJ23_stringSize 24 = .ok (.if_icmp .le 7, 3) := dk_164 0 7 (dk_at dksJ23_stringSize_1 0 rfl rfl)
theorem dJ23_stringSize_27 : decode cJ23_stringSize 27 = .ok (.iload_n 3, 1) := dk_29 (dk_at dksJ23_stringSize_1 3 rfl rfl)
theorem dJ23_stringSize_28 : decode cJ23_stringSize 28 = .ok (.iload_n 1, 1) := dk_27 (dk_at dksJ23_stringSize_1 4 rfl rfl)
theorem dJ23_stringSize_29 : decode cJ23_stringSize 29 = .ok (.iadd, 1) := dk_96 (dk_at dksJ23_stringSize_1 5 rfl rfl)
theorem dJ23_stringSize_30 : decode cJ23_stringSize 30 = .ok (.ireturn, 1) := dk_172 (dk_at dksJ23_stringSize_1 6 rfl rfl)
theorem dJ23_stringSize_31 : decode cJ23_stringSize 31 = .ok (.bipush 10, 2) := dk_16 10 (dk_at dksJ23_stringSize_1 7 rfl rfl)
theorem dJ23_stringSize_33 : decode cJ23_stringSize 33 = .ok (.iload_n 2, 1) := dk_28 (dk_at dksJ23_stringSize_1 9 rfl rfl)
theorem dJ23_stringSize_34 : decode cJ23_stringSize 34 = .ok (.imul, 1) := dk_104 (dk_at dksJ23_stringSize_1 10 rfl rfl)
theorem dJ23_stringSize_35 : decode cJ23_stringSize 35 = .ok (.istore_n 2, 1) := dk_61 (dk_at dksJ23_stringSize_1 11 rfl rfl)
theorem dJ23_stringSize_36 : decode cJ23_stringSize 36 = .ok (.iinc 3 1, 3) := dk_132 3 1 (dk_at dksJ23_stringSize_1 12 rfl rfl)
theorem dJ23_stringSize_39 : decode cJ23_stringSize 39 = .ok (.goto (-23), 3) := dk_167 255 233 (dk_at dksJ23_stringSize_1 15 rfl rfl)
theorem dJ23_stringSize_42 : decode cJ23_stringSize 42 = .ok (.bipush 10, 2) := dk_16 10 (dk_at dksJ23_stringSize_1 18 rfl rfl)
theorem dJ23_stringSize_44 : decode cJ23_stringSize 44 = .ok (.iload_n 1, 1) := dk_27 (dk_at dksJ23_stringSize_1 20 rfl rfl)
theorem dJ23_stringSize_45 : decode cJ23_stringSize 45 = .ok (.iadd, 1) := dk_96 (dk_at dksJ23_stringSize_1 21 rfl rfl)
theorem dJ23_stringSize_46 : decode cJ23_stringSize 46 = .ok (.ireturn, 1) := dk_172 (dk_at dksJ23_stringSize_1 22 rfl rfl)
abbrev iJ23_stringSize : xM := (yJ23_stringSize, cJ23_stringSize, 4, (some .int), [])
theorem mJ23_stringSize : xOkM iJ23_stringSize := ⟨by decide +kernel, by decide, q538, q157⟩
abbrev cJ23_getChars : ByteArray := prog_31_method_12_code
def yJ23_getChars : MethodName := ⟨RJ23, "getChars", "(II[B)I"⟩
def dkwJ23_getChars_5 : List UInt8 := [16, 45, 84, 21, 5, 172]
abbrev dktJ23_getChars_5 : List UInt8 := dkwJ23_getChars_5 ++ []
def dkwJ23_getChars_4 : List UInt8 := [132, 5, 255, 21, 5, 178, 0, 87, 26, 116, 51, 84, 21, 6, 153, 0, 12, 44, 132, 5, 255, 21, 5]
abbrev dktJ23_getChars_4 : List UInt8 := dkwJ23_getChars_4 ++ dktJ23_getChars_5
def dkwJ23_getChars_3 : List UInt8 := [167, 255, 209, 44, 132, 5, 255, 21, 5, 178, 0, 83, 26, 116, 51, 84, 26, 16, 247, 162, 0, 16, 44]
abbrev dktJ23_getChars_3 : List UInt8 := dkwJ23_getChars_3 ++ dktJ23_getChars_4
def dkwJ23_getChars_2 : List UInt8 := [21, 5, 178, 0, 83, 21, 4, 51, 84, 44, 132, 5, 255, 21, 5, 178, 0, 87, 21, 4, 51, 84]
abbrev dktJ23_getChars_2 : List UInt8 := dkwJ23_getChars_2 ++ dktJ23_getChars_3
def dkwJ23_getChars_1 : List UInt8 := [16, 156, 163, 0, 47, 26, 16, 100, 108, 62, 29, 16, 100, 104, 26, 100, 54, 4, 29, 59, 44, 132, 5, 255]
abbrev dktJ23_getChars_1 : List UInt8 := dkwJ23_getChars_1 ++ dktJ23_getChars_2
def dkwJ23_getChars_0 : List UInt8 := [27, 54, 5, 26, 156, 0, 7, 4, 167, 0, 4, 3, 54, 6, 21, 6, 154, 0, 6, 26, 116, 59, 26]
abbrev dktJ23_getChars_0 : List UInt8 := dkwJ23_getChars_0 ++ dktJ23_getChars_1
theorem dksJ23_getChars_0 : cJ23_getChars.data.toList.drop 0 = dktJ23_getChars_0 := by decide +kernel
theorem dksJ23_getChars_1 : cJ23_getChars.data.toList.drop 23 = dktJ23_getChars_1 := dk_seg dksJ23_getChars_0 23 rfl rfl
theorem dksJ23_getChars_2 : cJ23_getChars.data.toList.drop 47 = dktJ23_getChars_2 := dk_seg dksJ23_getChars_1 24 rfl rfl
theorem dksJ23_getChars_3 : cJ23_getChars.data.toList.drop 69 = dktJ23_getChars_3 := dk_seg dksJ23_getChars_2 22 rfl rfl
theorem dksJ23_getChars_4 : cJ23_getChars.data.toList.drop 92 = dktJ23_getChars_4 := dk_seg dksJ23_getChars_3 23 rfl rfl
theorem dksJ23_getChars_5 : cJ23_getChars.data.toList.drop 115 = dktJ23_getChars_5 := dk_seg dksJ23_getChars_4 23 rfl rfl
theorem dJ23_getChars_0 : decode cJ23_getChars 0 = .ok (.iload_n 1, 1) := dk_27 (dk_at dksJ23_getChars_0 0 rfl rfl)
theorem dJ23_getChars_1 : decode cJ23_getChars 1 = .ok (.istore 5, 2) := dk_54 5 (dk_at dksJ23_getChars_0 1 rfl rfl)
theorem dJ23_getChars_3 : decode cJ23_getChars 3 = .ok (.iload_n 0, 1) := dk_26 (dk_at dksJ23_getChars_0 3 rfl rfl)
theorem dJ23_getChars_4 : decode cJ23_getChars 4 = .ok (.ifCond .ge 7, 3) := dk_156 0 7 (dk_at dksJ23_getChars_0 4 rfl rfl)
theorem dJ23_getChars_7 : decode cJ23_getChars 7 = .ok (.iconst 1, 1) := dk_4 (dk_at dksJ23_getChars_0 7 rfl rfl)
theorem dJ23_getChars_8 : decode cJ23_getChars 8 = .ok (.goto 4, 3) := dk_167 0 4 (dk_at dksJ23_getChars_0 8 rfl rfl)
theorem dJ23_getChars_11 : decode cJ23_getChars 11 = .ok (.iconst 0, 1) := dk_3 (dk_at dksJ23_getChars_0 11 rfl rfl)
theorem dJ23_getChars_12 : decode cJ23_getChars 12 = .ok (.istore 6, 2) := dk_54 6 (dk_at dksJ23_getChars_0 12 rfl rfl)
theorem dJ23_getChars_14 : decode cJ23_getChars 14 = .ok (.iload 6, 2) := dk_21 6 (dk_at dksJ23_getChars_0 14 rfl rfl)
theorem dJ23_getChars_16 : decode cJ23_getChars 16 = .ok (.ifCond .ne 6, 3) := dk_154 0 6 (dk_at dksJ23_getChars_0 16 rfl rfl)
theorem dJ23_getChars_19 : decode cJ23_getChars 19 = .ok (.iload_n 0, 1) := dk_26 (dk_at dksJ23_getChars_0 19 rfl rfl)
theorem dJ23_getChars_20 : decode cJ23_getChars 20 = .ok (.ineg, 1) := dk_116 (dk_at dksJ23_getChars_0 20 rfl rfl)
theorem dJ23_getChars_21 : decode cJ23_getChars 21 = .ok (.istore_n 0, 1) := dk_59 (dk_at dksJ23_getChars_0 21 rfl rfl)
theorem dJ23_getChars_22 : decode cJ23_getChars 22 = .ok (.iload_n 0, 1) := dk_26 (dk_at dksJ23_getChars_0 22 rfl rfl)
theorem dJ23_getChars_23 : decode cJ23_getChars 23 = .ok (.bipush (-100), 2) := dk_16 156 (dk_at dksJ23_getChars_1 0 rfl rfl)
theorem dJ23_getChars_25 : decode cJ23_getChars 25 = .ok (.if_icmp .gt 47, 3) := dk_163 0 47 (dk_at dksJ23_getChars_1 2 rfl rfl)
theorem dJ23_getChars_28 : decode cJ23_getChars 28 = .ok (.iload_n 0, 1) := dk_26 (dk_at dksJ23_getChars_1 5 rfl rfl)
theorem dJ23_getChars_29 : decode cJ23_getChars 29 = .ok (.bipush 100, 2) := dk_16 100 (dk_at dksJ23_getChars_1 6 rfl rfl)
theorem dJ23_getChars_31 : decode cJ23_getChars 31 = .ok (.idiv, 1) := dk_108 (dk_at dksJ23_getChars_1 8 rfl rfl)
theorem dJ23_getChars_32 : decode cJ23_getChars 32 = .ok (.istore_n 3, 1) := dk_62 (dk_at dksJ23_getChars_1 9 rfl rfl)
theorem dJ23_getChars_33 : decode cJ23_getChars 33 = .ok (.iload_n 3, 1) := dk_29 (dk_at dksJ23_getChars_1 10 rfl rfl)
theorem dJ23_getChars_34 : decode cJ23_getChars 34 = .ok (.bipush 100, 2) := dk_16 100 (dk_at dksJ23_getChars_1 11 rfl rfl)
theorem dJ23_getChars_36 : decode cJ23_getChars 36 = .ok (.imul, 1) := dk_104 (dk_at dksJ23_getChars_1 13 rfl rfl)
theorem dJ23_getChars_37 : decode cJ23_getChars 37 = .ok (.iload_n 0, 1) := dk_26 (dk_at dksJ23_getChars_1 14 rfl rfl)
theorem dJ23_getChars_38 : decode cJ23_getChars 38 = .ok (.isub, 1) := dk_100 (dk_at dksJ23_getChars_1 15 rfl rfl)
theorem dJ23_getChars_39 : decode cJ23_getChars 39 = .ok (.istore 4, 2) := dk_54 4 (dk_at dksJ23_getChars_1 16 rfl rfl)
theorem dJ23_getChars_41 : decode cJ23_getChars 41 = .ok (.iload_n 3, 1) := dk_29 (dk_at dksJ23_getChars_1 18 rfl rfl)
theorem dJ23_getChars_42 : decode cJ23_getChars 42 = .ok (.istore_n 0, 1) := dk_59 (dk_at dksJ23_getChars_1 19 rfl rfl)
theorem dJ23_getChars_43 : decode cJ23_getChars 43 = .ok (.aload_n 2, 1) := dk_44 (dk_at dksJ23_getChars_1 20 rfl rfl)
theorem dJ23_getChars_44 : decode cJ23_getChars 44 = .ok (.iinc 5 (-1), 3) := dk_132 5 255 (dk_at dksJ23_getChars_1 21 rfl rfl)
theorem dJ23_getChars_47 : decode cJ23_getChars 47 = .ok (.iload 5, 2) := dk_21 5 (dk_at dksJ23_getChars_2 0 rfl rfl)
theorem dJ23_getChars_49 : decode cJ23_getChars 49 = .ok (.getstatic 83, 3) := dk_178 0 83 (dk_at dksJ23_getChars_2 2 rfl rfl)
theorem dJ23_getChars_52 : decode cJ23_getChars 52 = .ok (.iload 4, 2) := dk_21 4 (dk_at dksJ23_getChars_2 5 rfl rfl)
theorem dJ23_getChars_54 : decode cJ23_getChars 54 = .ok (.baload, 1) := dk_51 (dk_at dksJ23_getChars_2 7 rfl rfl)
theorem dJ23_getChars_55 : decode cJ23_getChars 55 = .ok (.bastore, 1) := dk_84 (dk_at dksJ23_getChars_2 8 rfl rfl)
theorem dJ23_getChars_56 : decode cJ23_getChars 56 = .ok (.aload_n 2, 1) := dk_44 (dk_at dksJ23_getChars_2 9 rfl rfl)
theorem dJ23_getChars_57 : decode cJ23_getChars 57 = .ok (.iinc 5 (-1), 3) := dk_132 5 255 (dk_at dksJ23_getChars_2 10 rfl rfl)
theorem dJ23_getChars_60 : decode cJ23_getChars 60 = .ok (.iload 5, 2) := dk_21 5 (dk_at dksJ23_getChars_2 13 rfl rfl)
theorem dJ23_getChars_62 : decode cJ23_getChars 62 = .ok (.getstatic 87, 3) := dk_178 0 87 (dk_at dksJ23_getChars_2 15 rfl rfl)
theorem dJ23_getChars_65 : decode cJ23_getChars 65 = .ok (.iload 4, 2) := dk_21 4 (dk_at dksJ23_getChars_2 18 rfl rfl)
theorem dJ23_getChars_67 : decode cJ23_getChars 67 = .ok (.baload, 1) := dk_51 (dk_at dksJ23_getChars_2 20 rfl rfl)
theorem dJ23_getChars_68 : decode cJ23_getChars 68 = .ok (.bastore, 1) := dk_84 (dk_at dksJ23_getChars_2 21 rfl rfl)
theorem dJ23_getChars_69 : decode cJ23_getChars 69 = .ok (.goto (-47), 3) := dk_167 255 209 (dk_at dksJ23_getChars_3 0 rfl rfl)
theorem dJ23_getChars_72 : decode cJ23_getChars 72 = .ok (.aload_n 2, 1) := dk_44 (dk_at dksJ23_getChars_3 3 rfl rfl)
theorem dJ23_getChars_73 : decode cJ23_getChars 73 = .ok (.iinc 5 (-1), 3) := dk_132 5 255 (dk_at dksJ23_getChars_3 4 rfl rfl)
theorem dJ23_getChars_76 : decode cJ23_getChars 76 = .ok (.iload 5, 2) := dk_21 5 (dk_at dksJ23_getChars_3 7 rfl rfl)
theorem dJ23_getChars_78 : decode cJ23_getChars 78 = .ok (.getstatic 83, 3) := dk_178 0 83 (dk_at dksJ23_getChars_3 9 rfl rfl)
theorem dJ23_getChars_81 : decode cJ23_getChars 81 = .ok (.iload_n 0, 1) := dk_26 (dk_at dksJ23_getChars_3 12 rfl rfl)
theorem dJ23_getChars_82 : decode cJ23_getChars 82 = .ok (.ineg, 1) := dk_116 (dk_at dksJ23_getChars_3 13 rfl rfl)
theorem dJ23_getChars_83 : decode cJ23_getChars 83 = .ok (.baload, 1) := dk_51 (dk_at dksJ23_getChars_3 14 rfl rfl)
theorem dJ23_getChars_84 : decode cJ23_getChars 84 = .ok (.bastore, 1) := dk_84 (dk_at dksJ23_getChars_3 15 rfl rfl)
theorem dJ23_getChars_85 : decode cJ23_getChars 85 = .ok (.iload_n 0, 1) := dk_26 (dk_at dksJ23_getChars_3 16 rfl rfl)
theorem dJ23_getChars_86 : decode cJ23_getChars 86 = .ok (.bipush (-9), 2) := dk_16 247 (dk_at dksJ23_getChars_3 17 rfl rfl)
theorem dJ23_getChars_88 : decode cJ23_getChars 88 = .ok (.if_icmp .ge 16, 3) := dk_162 0 16 (dk_at dksJ23_getChars_3 19 rfl rfl)
theorem dJ23_getChars_91 : decode cJ23_getChars 91 = .ok (.aload_n 2, 1) := dk_44 (dk_at dksJ23_getChars_3 22 rfl rfl)
theorem dJ23_getChars_92 : decode cJ23_getChars 92 = .ok (.iinc 5 (-1), 3) := dk_132 5 255 (dk_at dksJ23_getChars_4 0 rfl rfl)
theorem dJ23_getChars_95 : decode cJ23_getChars 95 = .ok (.iload 5, 2) := dk_21 5 (dk_at dksJ23_getChars_4 3 rfl rfl)
theorem dJ23_getChars_97 : decode cJ23_getChars 97 = .ok (.getstatic 87, 3) := dk_178 0 87 (dk_at dksJ23_getChars_4 5 rfl rfl)
theorem dJ23_getChars_100 : decode cJ23_getChars 100 = .ok (.iload_n 0, 1) := dk_26 (dk_at dksJ23_getChars_4 8 rfl rfl)
theorem dJ23_getChars_101 : decode cJ23_getChars 101 = .ok (.ineg, 1) := dk_116 (dk_at dksJ23_getChars_4 9 rfl rfl)
theorem dJ23_getChars_102 : decode cJ23_getChars 102 = .ok (.baload, 1) := dk_51 (dk_at dksJ23_getChars_4 10 rfl rfl)
theorem dJ23_getChars_103 : decode cJ23_getChars 103 = .ok (.bastore, 1) := dk_84 (dk_at dksJ23_getChars_4 11 rfl rfl)
theorem dJ23_getChars_104 : decode cJ23_getChars 104 = .ok (.iload 6, 2) := dk_21 6 (dk_at dksJ23_getChars_4 12 rfl rfl)
theorem dJ23_getChars_106 : decode cJ23_getChars 106 = .ok (.ifCond .eq 12, 3) := dk_153 0 12 (dk_at dksJ23_getChars_4 14 rfl rfl)
theorem dJ23_getChars_109 : decode cJ23_getChars 109 = .ok (.aload_n 2, 1) := dk_44 (dk_at dksJ23_getChars_4 17 rfl rfl)
theorem dJ23_getChars_110 : decode cJ23_getChars 110 = .ok (.iinc 5 (-1), 3) := dk_132 5 255 (dk_at dksJ23_getChars_4 18 rfl rfl)
theorem dJ23_getChars_113 : decode cJ23_getChars 113 = .ok (.iload 5, 2) := dk_21 5 (dk_at dksJ23_getChars_4 21 rfl rfl)
theorem dJ23_getChars_115 : decode cJ23_getChars 115 = .ok (.bipush 45, 2) := dk_16 45 (dk_at dksJ23_getChars_5 0 rfl rfl)
theorem dJ23_getChars_117 : decode cJ23_getChars 117 = .ok (.bastore, 1) := dk_84 (dk_at dksJ23_getChars_5 2 rfl rfl)
theorem dJ23_getChars_118 : decode cJ23_getChars 118 = .ok (.iload 5, 2) := dk_21 5 (dk_at dksJ23_getChars_5 3 rfl rfl)
theorem dJ23_getChars_120 : decode cJ23_getChars 120 = .ok (.ireturn, 1) := dk_172 (dk_at dksJ23_getChars_5 5 rfl rfl)
abbrev iJ23_getChars : xM := (yJ23_getChars, cJ23_getChars, 7, (some .int), [])
theorem mJ23_getChars : xOkM iJ23_getChars := ⟨by decide +kernel, by decide, q541, q157⟩
abbrev cJ23_numberOfLeadingZeros : ByteArray := prog_31_method_47_code
def yJ23_numberOfLeadingZeros : MethodName := ⟨RJ23, "numberOfLeadingZeros", "(I)I"⟩
def dkwJ23_numberOfLeadingZeros_3 : List UInt8 := [5, 124, 59, 27, 26, 4, 124, 100, 172]
abbrev dktJ23_numberOfLeadingZeros_3 : List UInt8 := dkwJ23_numberOfLeadingZeros_3 ++ []
def dkwJ23_numberOfLeadingZeros_2 : List UInt8 := [124, 59, 26, 16, 16, 161, 0, 10, 132, 1, 252, 26, 7, 124, 59, 26, 7, 161, 0, 10, 132, 1, 254, 26]
abbrev dktJ23_numberOfLeadingZeros_2 : List UInt8 := dkwJ23_numberOfLeadingZeros_2 ++ dktJ23_numberOfLeadingZeros_3
def dkwJ23_numberOfLeadingZeros_1 : List UInt8 := [161, 0, 11, 132, 1, 240, 26, 16, 16, 124, 59, 26, 17, 1, 0, 161, 0, 11, 132, 1, 248, 26, 16, 8]
abbrev dktJ23_numberOfLeadingZeros_1 : List UInt8 := dkwJ23_numberOfLeadingZeros_1 ++ dktJ23_numberOfLeadingZeros_2
def dkwJ23_numberOfLeadingZeros_0 : List UInt8 := [26, 157, 0, 14, 26, 154, 0, 8, 16, 32, 167, 0, 4, 3, 172, 16, 31, 60, 26, 19, 1, 8]
abbrev dktJ23_numberOfLeadingZeros_0 : List UInt8 := dkwJ23_numberOfLeadingZeros_0 ++ dktJ23_numberOfLeadingZeros_1
theorem dksJ23_numberOfLeadingZeros_0 : cJ23_numberOfLeadingZeros.data.toList.drop 0 = dktJ23_numberOfLeadingZeros_0 := by decide +kernel
theorem dksJ23_numberOfLeadingZeros_1 : cJ23_numberOfLeadingZeros.data.toList.drop 22 = dktJ23_numberOfLeadingZeros_1 := dk_seg dksJ23_numberOfLeadingZeros_0 22 rfl rfl
theorem dksJ23_numberOfLeadingZeros_2 : cJ23_numberOfLeadingZeros.data.toList.drop 46 = dktJ23_numberOfLeadingZeros_2 := dk_seg dksJ23_numberOfLeadingZeros_1 24 rfl rfl
theorem dksJ23_numberOfLeadingZeros_3 : cJ23_numberOfLeadingZeros.data.toList.drop 70 = dktJ23_numberOfLeadingZeros_3 := dk_seg dksJ23_numberOfLeadingZeros_2 24 rfl rfl
theorem dJ23_numberOfLeadingZeros_0 : decode cJ23_numberOfLeadingZeros 0 = .ok (.iload_n 0, 1) := dk_26 (dk_at dksJ23_numberOfLeadingZeros_0 0 rfl rfl)
theorem dJ23_numberOfLeadingZeros_1 : decode cJ23_numberOfLeadingZeros 1 = .ok (.ifCond .gt 14, 3) := dk_157 0 14 (dk_at dksJ23_numberOfLeadingZeros_0 1 rfl rfl)
theorem dJ23_numberOfLeadingZeros_4 : decode cJ23_numberOfLeadingZeros 4 = .ok (.iload_n 0, 1) := dk_26 (dk_at dksJ23_numberOfLeadingZeros_0 4 rfl rfl)
theorem dJ23_numberOfLeadingZeros_5 : decode cJ23_numberOfLeadingZeros 5 = .ok (.ifCond .ne 8, 3) := dk_154 0 8 (dk_at dksJ23_numberOfLeadingZeros_0 5 rfl rfl)
theorem dJ23_numberOfLeadingZeros_8 : decode cJ23_numberOfLeadingZeros 8 = .ok (.bipush 32, 2) := dk_16 32 (dk_at dksJ23_numberOfLeadingZeros_0 8 rfl rfl)
theorem dJ23_numberOfLeadingZeros_10 : decode cJ23_numberOfLeadingZeros 10 = .ok (.goto 4, 3) := dk_167 0 4 (dk_at dksJ23_numberOfLeadingZeros_0 10 rfl rfl)
theorem dJ23_numberOfLeadingZeros_13 : decode cJ23_numberOfLeadingZeros 13 = .ok (.iconst 0, 1) := dk_3 (dk_at dksJ23_numberOfLeadingZeros_0 13 rfl rfl)
theorem dJ23_numberOfLeadingZeros_14 : decode cJ23_numberOfLeadingZeros 14 = .ok (.ireturn, 1) := dk_172 (dk_at dksJ23_numberOfLeadingZeros_0 14 rfl rfl)
theorem dJ23_numberOfLeadingZeros_15 : decode cJ23_numberOfLeadingZeros 15 = .ok (.bipush 31, 2) := dk_16 31 (dk_at dksJ23_numberOfLeadingZeros_0 15 rfl rfl)
theorem dJ23_numberOfLeadingZeros_17 : decode cJ23_numberOfLeadingZeros 17 = .ok (.istore_n 1, 1) := dk_60 (dk_at dksJ23_numberOfLeadingZeros_0 17 rfl rfl)
theorem dJ23_numberOfLeadingZeros_18 : decode cJ23_numberOfLeadingZeros 18 = .ok (.iload_n 0, 1) := dk_26 (dk_at dksJ23_numberOfLeadingZeros_0 18 rfl rfl)
theorem dJ23_numberOfLeadingZeros_19 : decode cJ23_numberOfLeadingZeros 19 = .ok (.ldc_w 264, 3) := dk_19 1 8 (dk_at dksJ23_numberOfLeadingZeros_0 19 rfl rfl)
theorem dJ23_numberOfLeadingZeros_22 : decode cJ23_numberOfLeadingZeros 22 = .ok (.if_icmp .lt 11, 3) := dk_161 0 11 (dk_at dksJ23_numberOfLeadingZeros_1 0 rfl rfl)
theorem dJ23_numberOfLeadingZeros_25 : decode cJ23_numberOfLeadingZeros 25 = .ok (.iinc 1 (-16), 3) := dk_132 1 240 (dk_at dksJ23_numberOfLeadingZeros_1 3 rfl rfl)
theorem dJ23_numberOfLeadingZeros_28 : decode cJ23_numberOfLeadingZeros 28 = .ok (.iload_n 0, 1) := dk_26 (dk_at dksJ23_numberOfLeadingZeros_1 6 rfl rfl)
theorem dJ23_numberOfLeadingZeros_29 : decode cJ23_numberOfLeadingZeros 29 = .ok (.bipush 16, 2) := dk_16 16 (dk_at dksJ23_numberOfLeadingZeros_1 7 rfl rfl)
theorem dJ23_numberOfLeadingZeros_31 : decode cJ23_numberOfLeadingZeros 31 = .ok (.iushr, 1) := dk_124 (dk_at dksJ23_numberOfLeadingZeros_1 9 rfl rfl)
theorem dJ23_numberOfLeadingZeros_32 : decode cJ23_numberOfLeadingZeros 32 = .ok (.istore_n 0, 1) := dk_59 (dk_at dksJ23_numberOfLeadingZeros_1 10 rfl rfl)
theorem dJ23_numberOfLeadingZeros_33 : decode cJ23_numberOfLeadingZeros 33 = .ok (.iload_n 0, 1) := dk_26 (dk_at dksJ23_numberOfLeadingZeros_1 11 rfl rfl)
theorem dJ23_numberOfLeadingZeros_34 : decode cJ23_numberOfLeadingZeros 34 = .ok (.sipush 256, 3) := dk_17 1 0 (dk_at dksJ23_numberOfLeadingZeros_1 12 rfl rfl)
theorem dJ23_numberOfLeadingZeros_37 : decode cJ23_numberOfLeadingZeros 37 = .ok (.if_icmp .lt 11, 3) := dk_161 0 11 (dk_at dksJ23_numberOfLeadingZeros_1 15 rfl rfl)
theorem dJ23_numberOfLeadingZeros_40 : decode cJ23_numberOfLeadingZeros 40 = .ok (.iinc 1 (-8), 3) := dk_132 1 248 (dk_at dksJ23_numberOfLeadingZeros_1 18 rfl rfl)
theorem dJ23_numberOfLeadingZeros_43 : decode cJ23_numberOfLeadingZeros 43 = .ok (.iload_n 0, 1) := dk_26 (dk_at dksJ23_numberOfLeadingZeros_1 21 rfl rfl)
theorem dJ23_numberOfLeadingZeros_44 : decode cJ23_numberOfLeadingZeros 44 = .ok (.bipush 8, 2) := dk_16 8 (dk_at dksJ23_numberOfLeadingZeros_1 22 rfl rfl)
theorem dJ23_numberOfLeadingZeros_46 : decode cJ23_numberOfLeadingZeros 46 = .ok (.iushr, 1) := dk_124 (dk_at dksJ23_numberOfLeadingZeros_2 0 rfl rfl)
theorem dJ23_numberOfLeadingZeros_47 : decode cJ23_numberOfLeadingZeros 47 = .ok (.istore_n 0, 1) := dk_59 (dk_at dksJ23_numberOfLeadingZeros_2 1 rfl rfl)
theorem dJ23_numberOfLeadingZeros_48 : decode cJ23_numberOfLeadingZeros 48 = .ok (.iload_n 0, 1) := dk_26 (dk_at dksJ23_numberOfLeadingZeros_2 2 rfl rfl)
theorem dJ23_numberOfLeadingZeros_49 : decode cJ23_numberOfLeadingZeros 49 = .ok (.bipush 16, 2) := dk_16 16 (dk_at dksJ23_numberOfLeadingZeros_2 3 rfl rfl)
theorem dJ23_numberOfLeadingZeros_51 : decode cJ23_numberOfLeadingZeros 51 = .ok (.if_icmp .lt 10, 3) := dk_161 0 10 (dk_at dksJ23_numberOfLeadingZeros_2 5 rfl rfl)
theorem dJ23_numberOfLeadingZeros_54 : decode cJ23_numberOfLeadingZeros 54 = .ok (.iinc 1 (-4), 3) := dk_132 1 252 (dk_at dksJ23_numberOfLeadingZeros_2 8 rfl rfl)
theorem dJ23_numberOfLeadingZeros_57 : decode cJ23_numberOfLeadingZeros 57 = .ok (.iload_n 0, 1) := dk_26 (dk_at dksJ23_numberOfLeadingZeros_2 11 rfl rfl)
theorem dJ23_numberOfLeadingZeros_58 : decode cJ23_numberOfLeadingZeros 58 = .ok (.iconst 4, 1) := dk_7 (dk_at dksJ23_numberOfLeadingZeros_2 12 rfl rfl)
theorem dJ23_numberOfLeadingZeros_59 : decode cJ23_numberOfLeadingZeros 59 = .ok (.iushr, 1) := dk_124 (dk_at dksJ23_numberOfLeadingZeros_2 13 rfl rfl)
theorem dJ23_numberOfLeadingZeros_60 : decode cJ23_numberOfLeadingZeros 60 = .ok (.istore_n 0, 1) := dk_59 (dk_at dksJ23_numberOfLeadingZeros_2 14 rfl rfl)
theorem dJ23_numberOfLeadingZeros_61 : decode cJ23_numberOfLeadingZeros 61 = .ok (.iload_n 0, 1) := dk_26 (dk_at dksJ23_numberOfLeadingZeros_2 15 rfl rfl)
theorem dJ23_numberOfLeadingZeros_62 : decode cJ23_numberOfLeadingZeros 62 = .ok (.iconst 4, 1) := dk_7 (dk_at dksJ23_numberOfLeadingZeros_2 16 rfl rfl)
theorem dJ23_numberOfLeadingZeros_63 : decode cJ23_numberOfLeadingZeros 63 = .ok (.if_icmp .lt 10, 3) := dk_161 0 10 (dk_at dksJ23_numberOfLeadingZeros_2 17 rfl rfl)
theorem dJ23_numberOfLeadingZeros_66 : decode cJ23_numberOfLeadingZeros 66 = .ok (.iinc 1 (-2), 3) := dk_132 1 254 (dk_at dksJ23_numberOfLeadingZeros_2 20 rfl rfl)
theorem dJ23_numberOfLeadingZeros_69 : decode cJ23_numberOfLeadingZeros 69 = .ok (.iload_n 0, 1) := dk_26 (dk_at dksJ23_numberOfLeadingZeros_2 23 rfl rfl)
theorem dJ23_numberOfLeadingZeros_70 : decode cJ23_numberOfLeadingZeros 70 = .ok (.iconst 2, 1) := dk_5 (dk_at dksJ23_numberOfLeadingZeros_3 0 rfl rfl)
theorem dJ23_numberOfLeadingZeros_71 : decode cJ23_numberOfLeadingZeros 71 = .ok (.iushr, 1) := dk_124 (dk_at dksJ23_numberOfLeadingZeros_3 1 rfl rfl)
theorem dJ23_numberOfLeadingZeros_72 : decode cJ23_numberOfLeadingZeros 72 = .ok (.istore_n 0, 1) := dk_59 (dk_at dksJ23_numberOfLeadingZeros_3 2 rfl rfl)
theorem dJ23_numberOfLeadingZeros_73 : decode cJ23_numberOfLeadingZeros 73 = .ok (.iload_n 1, 1) := dk_27 (dk_at dksJ23_numberOfLeadingZeros_3 3 rfl rfl)
theorem dJ23_numberOfLeadingZeros_74 : decode cJ23_numberOfLeadingZeros 74 = .ok (.iload_n 0, 1) := dk_26 (dk_at dksJ23_numberOfLeadingZeros_3 4 rfl rfl)
theorem dJ23_numberOfLeadingZeros_75 : decode cJ23_numberOfLeadingZeros 75 = .ok (.iconst 1, 1) := dk_4 (dk_at dksJ23_numberOfLeadingZeros_3 5 rfl rfl)
theorem dJ23_numberOfLeadingZeros_76 : decode cJ23_numberOfLeadingZeros 76 = .ok (.iushr, 1) := dk_124 (dk_at dksJ23_numberOfLeadingZeros_3 6 rfl rfl)
theorem dJ23_numberOfLeadingZeros_77 : decode cJ23_numberOfLeadingZeros 77 = .ok (.isub, 1) := dk_100 (dk_at dksJ23_numberOfLeadingZeros_3 7 rfl rfl)
theorem dJ23_numberOfLeadingZeros_78 : decode cJ23_numberOfLeadingZeros 78 = .ok (.ireturn, 1) := dk_172 (dk_at dksJ23_numberOfLeadingZeros_3 8 rfl rfl)
abbrev iJ23_numberOfLeadingZeros : xM := (yJ23_numberOfLeadingZeros, cJ23_numberOfLeadingZeros, 2, (some .int), [])
theorem mJ23_numberOfLeadingZeros : xOkM iJ23_numberOfLeadingZeros := ⟨by decide +kernel, by decide, q700, q157⟩
abbrev cJ23_toString : ByteArray := prog_31_method_31_code
def yJ23_toString : MethodName := ⟨RJ23, "toString", "()Ljava/lang/String;"⟩
def dkwJ23_toString_0 : List UInt8 := [42, 180, 0, 205, 184, 0, 9, 176]
abbrev dktJ23_toString_0 : List UInt8 := dkwJ23_toString_0 ++ []
theorem dksJ23_toString_0 : cJ23_toString.data.toList.drop 0 = dktJ23_toString_0 := by decide +kernel
theorem dJ23_toString_0 : decode cJ23_toString 0 = .ok (.aload_n 0, 1) := dk_42 (dk_at dksJ23_toString_0 0 rfl rfl)
theorem dJ23_toString_1 : decode cJ23_toString 1 = .ok (.getfield 205, 3) := dk_180 0 205 (dk_at dksJ23_toString_0 1 rfl rfl)
theorem dJ23_toString_4 : decode cJ23_toString 4 = .ok (.invokestatic 9, 3) := dk_184 0 9 (dk_at dksJ23_toString_0 4 rfl rfl)
theorem dJ23_toString_7 : decode cJ23_toString 7 = .ok (.areturn, 1) := dk_176 (dk_at dksJ23_toString_0 7 rfl rfl)
abbrev iJ23_toString : xM := (yJ23_toString, cJ23_toString, 1, (some (.object "java/lang/String")), [])
theorem mJ23_toString : xOkM iJ23_toString := ⟨by decide +kernel, by decide, q1075, q157⟩
abbrev cJ23_toString_2 : ByteArray := prog_31_method_10_code
def yJ23_toString_2 : MethodName := ⟨RJ23, "toString", "(I)Ljava/lang/String;"⟩
def dkwJ23_toString_2_2 : List UInt8 := [187, 0, 5, 89, 44, 4, 183, 0, 65, 176]
abbrev dktJ23_toString_2_2 : List UInt8 := dkwJ23_toString_2_2 ++ []
def dkwJ23_toString_2_1 : List UInt8 := [187, 0, 5, 89, 44, 3, 183, 0, 65, 176, 27, 5, 104, 188, 8, 77, 26, 27, 44, 184, 0, 79, 87]
abbrev dktJ23_toString_2_1 : List UInt8 := dkwJ23_toString_2_1 ++ dktJ23_toString_2_2
def dkwJ23_toString_2_0 : List UInt8 := [26, 184, 0, 72, 60, 178, 0, 13, 153, 0, 24, 27, 188, 8, 77, 26, 27, 44, 184, 0, 75, 87]
abbrev dktJ23_toString_2_0 : List UInt8 := dkwJ23_toString_2_0 ++ dktJ23_toString_2_1
theorem dksJ23_toString_2_0 : cJ23_toString_2.data.toList.drop 0 = dktJ23_toString_2_0 := by decide +kernel
theorem dksJ23_toString_2_1 : cJ23_toString_2.data.toList.drop 22 = dktJ23_toString_2_1 := dk_seg dksJ23_toString_2_0 22 rfl rfl
theorem dksJ23_toString_2_2 : cJ23_toString_2.data.toList.drop 45 = dktJ23_toString_2_2 := dk_seg dksJ23_toString_2_1 23 rfl rfl
theorem dJ23_toString_2_0 : decode cJ23_toString_2 0 = .ok (.iload_n 0, 1) := dk_26 (dk_at dksJ23_toString_2_0 0 rfl rfl)
theorem dJ23_toString_2_1 : decode cJ23_toString_2 1 = .ok (.invokestatic 72, 3) := dk_184 0 72 (dk_at dksJ23_toString_2_0 1 rfl rfl)
theorem dJ23_toString_2_4 : decode cJ23_toString_2 4 = .ok (.istore_n 1, 1) := dk_60 (dk_at dksJ23_toString_2_0 4 rfl rfl)
theorem dJ23_toString_2_5 : decode cJ23_toString_2 5 = .ok (.getstatic 13, 3) := dk_178 0 13 (dk_at dksJ23_toString_2_0 5 rfl rfl)
theorem dJ23_toString_2_8 : decode cJ23_toString_2 8 = .ok (.ifCond .eq 24, 3) := dk_153 0 24 (dk_at dksJ23_toString_2_0 8 rfl rfl)
theorem dJ23_toString_2_11 : decode cJ23_toString_2 11 = .ok (.iload_n 1, 1) := dk_27 (dk_at dksJ23_toString_2_0 11 rfl rfl)
theorem dJ23_toString_2_12 : decode cJ23_toString_2 12 = .ok (.newarray .byte, 2) := dk_188_8 (dk_at dksJ23_toString_2_0 12 rfl rfl)
theorem dJ23_toString_2_14 : decode cJ23_toString_2 14 = .ok (.astore_n 2, 1) := dk_77 (dk_at dksJ23_toString_2_0 14 rfl rfl)
theorem dJ23_toString_2_15 : decode cJ23_toString_2 15 = .ok (.iload_n 0, 1) := dk_26 (dk_at dksJ23_toString_2_0 15 rfl rfl)
theorem dJ23_toString_2_16 : decode cJ23_toString_2 16 = .ok (.iload_n 1, 1) := dk_27 (dk_at dksJ23_toString_2_0 16 rfl rfl)
theorem dJ23_toString_2_17 : decode cJ23_toString_2 17 = .ok (.aload_n 2, 1) := dk_44 (dk_at dksJ23_toString_2_0 17 rfl rfl)
theorem dJ23_toString_2_18 : decode cJ23_toString_2 18 = .ok (.invokestatic 75, 3) := dk_184 0 75 (dk_at dksJ23_toString_2_0 18 rfl rfl)
theorem dJ23_toString_2_21 : decode cJ23_toString_2 21 = .ok (.pop, 1) := dk_87 (dk_at dksJ23_toString_2_0 21 rfl rfl)
theorem dJ23_toString_2_22 : decode cJ23_toString_2 22 = .ok (.new 5, 3) := dk_187 0 5 (dk_at dksJ23_toString_2_1 0 rfl rfl)
theorem dJ23_toString_2_25 : decode cJ23_toString_2 25 = .ok (.dup, 1) := dk_89 (dk_at dksJ23_toString_2_1 3 rfl rfl)
theorem dJ23_toString_2_26 : decode cJ23_toString_2 26 = .ok (.aload_n 2, 1) := dk_44 (dk_at dksJ23_toString_2_1 4 rfl rfl)
theorem dJ23_toString_2_27 : decode cJ23_toString_2 27 = .ok (.iconst 0, 1) := dk_3 (dk_at dksJ23_toString_2_1 5 rfl rfl)
theorem dJ23_toString_2_28 : decode cJ23_toString_2 28 = .ok (.invokespecial 65, 3) := dk_183 0 65 (dk_at dksJ23_toString_2_1 6 rfl rfl)
theorem dJ23_toString_2_31 : decode cJ23_toString_2 31 = .ok (.areturn, 1) := dk_176 (dk_at dksJ23_toString_2_1 9 rfl rfl)
theorem dJ23_toString_2_32 : decode cJ23_toString_2 32 = .ok (.iload_n 1, 1) := dk_27 (dk_at dksJ23_toString_2_1 10 rfl rfl)
theorem dJ23_toString_2_33 : decode cJ23_toString_2 33 = .ok (.iconst 2, 1) := dk_5 (dk_at dksJ23_toString_2_1 11 rfl rfl)
theorem dJ23_toString_2_34 : decode cJ23_toString_2 34 = .ok (.imul, 1) := dk_104 (dk_at dksJ23_toString_2_1 12 rfl rfl)
theorem dJ23_toString_2_35 : decode cJ23_toString_2 35 = .ok (.newarray .byte, 2) := dk_188_8 (dk_at dksJ23_toString_2_1 13 rfl rfl)
theorem dJ23_toString_2_37 : decode cJ23_toString_2 37 = .ok (.astore_n 2, 1) := dk_77 (dk_at dksJ23_toString_2_1 15 rfl rfl)
theorem dJ23_toString_2_38 : decode cJ23_toString_2 38 = .ok (.iload_n 0, 1) := dk_26 (dk_at dksJ23_toString_2_1 16 rfl rfl)
theorem dJ23_toString_2_39 : decode cJ23_toString_2 39 = .ok (.iload_n 1, 1) := dk_27 (dk_at dksJ23_toString_2_1 17 rfl rfl)
theorem dJ23_toString_2_40 : decode cJ23_toString_2 40 = .ok (.aload_n 2, 1) := dk_44 (dk_at dksJ23_toString_2_1 18 rfl rfl)
theorem dJ23_toString_2_41 : decode cJ23_toString_2 41 = .ok (.invokestatic 79, 3) := dk_184 0 79 (dk_at dksJ23_toString_2_1 19 rfl rfl)
theorem dJ23_toString_2_44 : decode cJ23_toString_2 44 = .ok (.pop, 1) := dk_87 (dk_at dksJ23_toString_2_1 22 rfl rfl)
theorem dJ23_toString_2_45 : decode cJ23_toString_2 45 = .ok (.new 5, 3) := dk_187 0 5 (dk_at dksJ23_toString_2_2 0 rfl rfl)
theorem dJ23_toString_2_48 : decode cJ23_toString_2 48 = .ok (.dup, 1) := dk_89 (dk_at dksJ23_toString_2_2 3 rfl rfl)
theorem dJ23_toString_2_49 : decode cJ23_toString_2 49 = .ok (.aload_n 2, 1) := dk_44 (dk_at dksJ23_toString_2_2 4 rfl rfl)
theorem dJ23_toString_2_50 : decode cJ23_toString_2 50 = .ok (.iconst 1, 1) := dk_4 (dk_at dksJ23_toString_2_2 5 rfl rfl)
theorem dJ23_toString_2_51 : decode cJ23_toString_2 51 = .ok (.invokespecial 65, 3) := dk_183 0 65 (dk_at dksJ23_toString_2_2 6 rfl rfl)
theorem dJ23_toString_2_54 : decode cJ23_toString_2 54 = .ok (.areturn, 1) := dk_176 (dk_at dksJ23_toString_2_2 9 rfl rfl)
abbrev iJ23_toString_2 : xM := (yJ23_toString_2, cJ23_toString_2, 3, (some (.object "java/lang/String")), [])
theorem mJ23_toString_2 : xOkM iJ23_toString_2 := ⟨by decide +kernel, by decide, q1078, q157⟩
abbrev cJ23_hashCode : ByteArray := prog_31_method_32_code
def yJ23_hashCode : MethodName := ⟨RJ23, "hashCode", "()I"⟩
def dkwJ23_hashCode_0 : List UInt8 := [42, 180, 0, 205, 184, 0, 208, 172]
abbrev dktJ23_hashCode_0 : List UInt8 := dkwJ23_hashCode_0 ++ []
theorem dksJ23_hashCode_0 : cJ23_hashCode.data.toList.drop 0 = dktJ23_hashCode_0 := by decide +kernel
theorem dJ23_hashCode_0 : decode cJ23_hashCode 0 = .ok (.aload_n 0, 1) := dk_42 (dk_at dksJ23_hashCode_0 0 rfl rfl)
theorem dJ23_hashCode_1 : decode cJ23_hashCode 1 = .ok (.getfield 205, 3) := dk_180 0 205 (dk_at dksJ23_hashCode_0 1 rfl rfl)
theorem dJ23_hashCode_4 : decode cJ23_hashCode 4 = .ok (.invokestatic 208, 3) := dk_184 0 208 (dk_at dksJ23_hashCode_0 4 rfl rfl)
theorem dJ23_hashCode_7 : decode cJ23_hashCode 7 = .ok (.ireturn, 1) := dk_172 (dk_at dksJ23_hashCode_0 7 rfl rfl)
abbrev iJ23_hashCode : xM := (yJ23_hashCode, cJ23_hashCode, 1, (some .int), [])
theorem mJ23_hashCode : xOkM iJ23_hashCode := ⟨by decide +kernel, by decide, q1391, q157⟩
abbrev cJ23_hashCode_2 : ByteArray := prog_31_method_33_code
def yJ23_hashCode_2 : MethodName := ⟨RJ23, "hashCode", "(I)I"⟩
theorem dJ23_hashCode_2_0 : decode cJ23_hashCode_2 0 = .ok (.iload_n 0, 1) := by decide +kernel
theorem dJ23_hashCode_2_1 : decode cJ23_hashCode_2 1 = .ok (.ireturn, 1) := by decide +kernel
abbrev iJ23_hashCode_2 : xM := (yJ23_hashCode_2, cJ23_hashCode_2, 1, (some .int), [])
theorem mJ23_hashCode_2 : xOkM iJ23_hashCode_2 := ⟨by decide +kernel, by decide, q1394, q157⟩
abbrev cJ23_compareTo : ByteArray := prog_31_method_63_code
def yJ23_compareTo : MethodName := ⟨RJ23, "compareTo", "(Ljava/lang/Object;)I"⟩
def dkwJ23_compareTo_0 : List UInt8 := [42, 43, 192, 0, 1, 182, 1, 28, 172]
abbrev dktJ23_compareTo_0 : List UInt8 := dkwJ23_compareTo_0 ++ []
theorem dksJ23_compareTo_0 : cJ23_compareTo.data.toList.drop 0 = dktJ23_compareTo_0 := by decide +kernel
theorem dJ23_compareTo_0 : decode cJ23_compareTo 0 = .ok (.aload_n 0, 1) := dk_42 (dk_at dksJ23_compareTo_0 0 rfl rfl)
theorem dJ23_compareTo_1 : decode cJ23_compareTo 1 = .ok (.aload_n 1, 1) := dk_43 (dk_at dksJ23_compareTo_0 1 rfl rfl)
theorem dJ23_compareTo_2 : decode cJ23_compareTo 2 = .ok (.checkcast 1, 3) := dk_192 0 1 (dk_at dksJ23_compareTo_0 2 rfl rfl)
theorem dJ23_compareTo_5 : decode cJ23_compareTo 5 = .ok (.invokevirtual 284, 3) := dk_182 1 28 (dk_at dksJ23_compareTo_0 5 rfl rfl)
theorem dJ23_compareTo_8 : decode cJ23_compareTo 8 = .ok (.ireturn, 1) := dk_172 (dk_at dksJ23_compareTo_0 8 rfl rfl)
abbrev iJ23_compareTo : xM := (yJ23_compareTo, cJ23_compareTo, 2, (some .int), [])
theorem mJ23_compareTo : xOkM iJ23_compareTo := ⟨by decide +kernel, by decide, q1584, q157⟩
abbrev cJ23_compareTo_2 : ByteArray := prog_31_method_39_code
def yJ23_compareTo_2 : MethodName := ⟨RJ23, "compareTo", "(Ljava/lang/Integer;)I"⟩
def dkwJ23_compareTo_2_0 : List UInt8 := [42, 180, 0, 205, 43, 180, 0, 205, 184, 1, 3, 172]
abbrev dktJ23_compareTo_2_0 : List UInt8 := dkwJ23_compareTo_2_0 ++ []
theorem dksJ23_compareTo_2_0 : cJ23_compareTo_2.data.toList.drop 0 = dktJ23_compareTo_2_0 := by decide +kernel
theorem dJ23_compareTo_2_0 : decode cJ23_compareTo_2 0 = .ok (.aload_n 0, 1) := dk_42 (dk_at dksJ23_compareTo_2_0 0 rfl rfl)
theorem dJ23_compareTo_2_1 : decode cJ23_compareTo_2 1 = .ok (.getfield 205, 3) := dk_180 0 205 (dk_at dksJ23_compareTo_2_0 1 rfl rfl)
theorem dJ23_compareTo_2_4 : decode cJ23_compareTo_2 4 = .ok (.aload_n 1, 1) := dk_43 (dk_at dksJ23_compareTo_2_0 4 rfl rfl)
theorem dJ23_compareTo_2_5 : decode cJ23_compareTo_2 5 = .ok (.getfield 205, 3) := dk_180 0 205 (dk_at dksJ23_compareTo_2_0 5 rfl rfl)
theorem dJ23_compareTo_2_8 : decode cJ23_compareTo_2 8 = .ok (.invokestatic 259, 3) := dk_184 1 3 (dk_at dksJ23_compareTo_2_0 8 rfl rfl)
theorem dJ23_compareTo_2_11 : decode cJ23_compareTo_2 11 = .ok (.ireturn, 1) := dk_172 (dk_at dksJ23_compareTo_2_0 11 rfl rfl)
abbrev iJ23_compareTo_2 : xM := (yJ23_compareTo_2, cJ23_compareTo_2, 2, (some .int), [])
theorem mJ23_compareTo_2 : xOkM iJ23_compareTo_2 := ⟨by decide +kernel, by decide, q1589, q157⟩
abbrev cJ23_compare : ByteArray := prog_31_method_40_code
def yJ23_compare : MethodName := ⟨RJ23, "compare", "(II)I"⟩
def dkwJ23_compare_0 : List UInt8 := [26, 27, 162, 0, 7, 2, 167, 0, 13, 26, 27, 160, 0, 7, 3, 167, 0, 4, 4, 172]
abbrev dktJ23_compare_0 : List UInt8 := dkwJ23_compare_0 ++ []
theorem dksJ23_compare_0 : cJ23_compare.data.toList.drop 0 = dktJ23_compare_0 := by decide +kernel
theorem dJ23_compare_0 : decode cJ23_compare 0 = .ok (.iload_n 0, 1) := dk_26 (dk_at dksJ23_compare_0 0 rfl rfl)
theorem dJ23_compare_1 : decode cJ23_compare 1 = .ok (.iload_n 1, 1) := dk_27 (dk_at dksJ23_compare_0 1 rfl rfl)
theorem dJ23_compare_2 : decode cJ23_compare 2 = .ok (.if_icmp .ge 7, 3) := dk_162 0 7 (dk_at dksJ23_compare_0 2 rfl rfl)
theorem dJ23_compare_5 : decode cJ23_compare 5 = .ok (.iconst (-1), 1) := dk_2 (dk_at dksJ23_compare_0 5 rfl rfl)
theorem dJ23_compare_6 : decode cJ23_compare 6 = .ok (.goto 13, 3) := dk_167 0 13 (dk_at dksJ23_compare_0 6 rfl rfl)
theorem dJ23_compare_9 : decode cJ23_compare 9 = .ok (.iload_n 0, 1) := dk_26 (dk_at dksJ23_compare_0 9 rfl rfl)
theorem dJ23_compare_10 : decode cJ23_compare 10 = .ok (.iload_n 1, 1) := dk_27 (dk_at dksJ23_compare_0 10 rfl rfl)
theorem dJ23_compare_11 : decode cJ23_compare 11 = .ok (.if_icmp .ne 7, 3) := dk_160 0 7 (dk_at dksJ23_compare_0 11 rfl rfl)
theorem dJ23_compare_14 : decode cJ23_compare 14 = .ok (.iconst 0, 1) := dk_3 (dk_at dksJ23_compare_0 14 rfl rfl)
theorem dJ23_compare_15 : decode cJ23_compare 15 = .ok (.goto 4, 3) := dk_167 0 4 (dk_at dksJ23_compare_0 15 rfl rfl)
theorem dJ23_compare_18 : decode cJ23_compare 18 = .ok (.iconst 1, 1) := dk_4 (dk_at dksJ23_compare_0 18 rfl rfl)
theorem dJ23_compare_19 : decode cJ23_compare 19 = .ok (.ireturn, 1) := dk_172 (dk_at dksJ23_compare_0 19 rfl rfl)
abbrev iJ23_compare : xM := (yJ23_compare, cJ23_compare, 2, (some .int), [])
theorem mJ23_compare : xOkM iJ23_compare := ⟨by decide +kernel, by decide, q1592, q157⟩
abbrev cJ23_numberOfTrailingZeros : ByteArray := prog_31_method_48_code
def yJ23_numberOfTrailingZeros : MethodName := ⟨RJ23, "numberOfTrailingZeros", "(I)I"⟩
def dkwJ23_numberOfTrailingZeros_3 : List UInt8 := [5, 124, 59, 27, 26, 4, 124, 96, 172]
abbrev dktJ23_numberOfTrailingZeros_3 : List UInt8 := dkwJ23_numberOfTrailingZeros_3 ++ []
def dkwJ23_numberOfTrailingZeros_2 : List UInt8 := [124, 59, 26, 16, 16, 164, 0, 10, 132, 1, 4, 26, 7, 124, 59, 26, 7, 164, 0, 10, 132, 1, 2, 26]
abbrev dktJ23_numberOfTrailingZeros_2 : List UInt8 := dkwJ23_numberOfTrailingZeros_2 ++ dktJ23_numberOfTrailingZeros_3
def dkwJ23_numberOfTrailingZeros_1 : List UInt8 := [164, 0, 11, 132, 1, 16, 26, 16, 16, 124, 59, 26, 17, 1, 0, 164, 0, 11, 132, 1, 8, 26, 16, 8]
abbrev dktJ23_numberOfTrailingZeros_1 : List UInt8 := dkwJ23_numberOfTrailingZeros_1 ++ dktJ23_numberOfTrailingZeros_2
def dkwJ23_numberOfTrailingZeros_0 : List UInt8 := [26, 2, 130, 26, 4, 100, 126, 59, 26, 157, 0, 8, 26, 16, 32, 126, 172, 4, 60, 26, 19, 1, 8]
abbrev dktJ23_numberOfTrailingZeros_0 : List UInt8 := dkwJ23_numberOfTrailingZeros_0 ++ dktJ23_numberOfTrailingZeros_1
theorem dksJ23_numberOfTrailingZeros_0 : cJ23_numberOfTrailingZeros.data.toList.drop 0 = dktJ23_numberOfTrailingZeros_0 := by decide +kernel
theorem dksJ23_numberOfTrailingZeros_1 : cJ23_numberOfTrailingZeros.data.toList.drop 23 = dktJ23_numberOfTrailingZeros_1 := dk_seg dksJ23_numberOfTrailingZeros_0 23 rfl rfl
theorem dksJ23_numberOfTrailingZeros_2 : cJ23_numberOfTrailingZeros.data.toList.drop 47 = dktJ23_numberOfTrailingZeros_2 := dk_seg dksJ23_numberOfTrailingZeros_1 24 rfl rfl
theorem dksJ23_numberOfTrailingZeros_3 : cJ23_numberOfTrailingZeros.data.toList.drop 71 = dktJ23_numberOfTrailingZeros_3 := dk_seg dksJ23_numberOfTrailingZeros_2 24 rfl rfl
theorem dJ23_numberOfTrailingZeros_0 : decode cJ23_numberOfTrailingZeros 0 = .ok (.iload_n 0, 1) := dk_26 (dk_at dksJ23_numberOfTrailingZeros_0 0 rfl rfl)
theorem dJ23_numberOfTrailingZeros_1 : decode cJ23_numberOfTrailingZeros 1 = .ok (.iconst (-1), 1) := dk_2 (dk_at dksJ23_numberOfTrailingZeros_0 1 rfl rfl)
theorem dJ23_numberOfTrailingZeros_2 : decode cJ23_numberOfTrailingZeros 2 = .ok (.ixor, 1) := dk_130 (dk_at dksJ23_numberOfTrailingZeros_0 2 rfl rfl)
theorem dJ23_numberOfTrailingZeros_3 : decode cJ23_numberOfTrailingZeros 3 = .ok (.iload_n 0, 1) := dk_26 (dk_at dksJ23_numberOfTrailingZeros_0 3 rfl rfl)
theorem dJ23_numberOfTrailingZeros_4 : decode cJ23_numberOfTrailingZeros 4 = .ok (.iconst 1, 1) := dk_4 (dk_at dksJ23_numberOfTrailingZeros_0 4 rfl rfl)
theorem dJ23_numberOfTrailingZeros_5 : decode cJ23_numberOfTrailingZeros 5 = .ok (.isub, 1) := dk_100 (dk_at dksJ23_numberOfTrailingZeros_0 5 rfl rfl)
theorem dJ23_numberOfTrailingZeros_6 : decode cJ23_numberOfTrailingZeros 6 = .ok (.iand, 1) := dk_126 (dk_at dksJ23_numberOfTrailingZeros_0 6 rfl rfl)
theorem dJ23_numberOfTrailingZeros_7 : decode cJ23_numberOfTrailingZeros 7 = .ok (.istore_n 0, 1) := dk_59 (dk_at dksJ23_numberOfTrailingZeros_0 7 rfl rfl)
theorem dJ23_numberOfTrailingZeros_8 : decode cJ23_numberOfTrailingZeros 8 = .ok (.iload_n 0, 1) := dk_26 (dk_at dksJ23_numberOfTrailingZeros_0 8 rfl rfl)
theorem dJ23_numberOfTrailingZeros_9 : decode cJ23_numberOfTrailingZeros 9 = .ok (.ifCond .gt 8, 3) := dk_157 0 8 (dk_at dksJ23_numberOfTrailingZeros_0 9 rfl rfl)
theorem dJ23_numberOfTrailingZeros_12 : decode cJ23_numberOfTrailingZeros 12 = .ok (.iload_n 0, 1) := dk_26 (dk_at dksJ23_numberOfTrailingZeros_0 12 rfl rfl)
theorem dJ23_numberOfTrailingZeros_13 : decode cJ23_numberOfTrailingZeros 13 = .ok (.bipush 32, 2) := dk_16 32 (dk_at dksJ23_numberOfTrailingZeros_0 13 rfl rfl)
theorem dJ23_numberOfTrailingZeros_15 : decode cJ23_numberOfTrailingZeros 15 = .ok (.iand, 1) := dk_126 (dk_at dksJ23_numberOfTrailingZeros_0 15 rfl rfl)
theorem dJ23_numberOfTrailingZeros_16 : decode cJ23_numberOfTrailingZeros 16 = .ok (.ireturn, 1) := dk_172 (dk_at dksJ23_numberOfTrailingZeros_0 16 rfl rfl)
theorem dJ23_numberOfTrailingZeros_17 : decode cJ23_numberOfTrailingZeros 17 = .ok (.iconst 1, 1) := dk_4 (dk_at dksJ23_numberOfTrailingZeros_0 17 rfl rfl)
theorem dJ23_numberOfTrailingZeros_18 : decode cJ23_numberOfTrailingZeros 18 = .ok (.istore_n 1, 1) := dk_60 (dk_at dksJ23_numberOfTrailingZeros_0 18 rfl rfl)
theorem dJ23_numberOfTrailingZeros_19 : decode cJ23_numberOfTrailingZeros 19 = .ok (.iload_n 0, 1) := dk_26 (dk_at dksJ23_numberOfTrailingZeros_0 19 rfl rfl)
theorem dJ23_numberOfTrailingZeros_20 : decode cJ23_numberOfTrailingZeros 20 = .ok (.ldc_w 264, 3) := dk_19 1 8 (dk_at dksJ23_numberOfTrailingZeros_0 20 rfl rfl)
theorem dJ23_numberOfTrailingZeros_23 : decode cJ23_numberOfTrailingZeros 23 = .ok (.if_icmp .le 11, 3) := dk_164 0 11 (dk_at dksJ23_numberOfTrailingZeros_1 0 rfl rfl)
theorem dJ23_numberOfTrailingZeros_26 : decode cJ23_numberOfTrailingZeros 26 = .ok (.iinc 1 16, 3) := dk_132 1 16 (dk_at dksJ23_numberOfTrailingZeros_1 3 rfl rfl)
theorem dJ23_numberOfTrailingZeros_29 : decode cJ23_numberOfTrailingZeros 29 = .ok (.iload_n 0, 1) := dk_26 (dk_at dksJ23_numberOfTrailingZeros_1 6 rfl rfl)
theorem dJ23_numberOfTrailingZeros_30 : decode cJ23_numberOfTrailingZeros 30 = .ok (.bipush 16, 2) := dk_16 16 (dk_at dksJ23_numberOfTrailingZeros_1 7 rfl rfl)
theorem dJ23_numberOfTrailingZeros_32 : decode cJ23_numberOfTrailingZeros 32 = .ok (.iushr, 1) := dk_124 (dk_at dksJ23_numberOfTrailingZeros_1 9 rfl rfl)
theorem dJ23_numberOfTrailingZeros_33 : decode cJ23_numberOfTrailingZeros 33 = .ok (.istore_n 0, 1) := dk_59 (dk_at dksJ23_numberOfTrailingZeros_1 10 rfl rfl)
theorem dJ23_numberOfTrailingZeros_34 : decode cJ23_numberOfTrailingZeros 34 = .ok (.iload_n 0, 1) := dk_26 (dk_at dksJ23_numberOfTrailingZeros_1 11 rfl rfl)
theorem dJ23_numberOfTrailingZeros_35 : decode cJ23_numberOfTrailingZeros 35 = .ok (.sipush 256, 3) := dk_17 1 0 (dk_at dksJ23_numberOfTrailingZeros_1 12 rfl rfl)
theorem dJ23_numberOfTrailingZeros_38 : decode cJ23_numberOfTrailingZeros 38 = .ok (.if_icmp .le 11, 3) := dk_164 0 11 (dk_at dksJ23_numberOfTrailingZeros_1 15 rfl rfl)
theorem dJ23_numberOfTrailingZeros_41 : decode cJ23_numberOfTrailingZeros 41 = .ok (.iinc 1 8, 3) := dk_132 1 8 (dk_at dksJ23_numberOfTrailingZeros_1 18 rfl rfl)
theorem dJ23_numberOfTrailingZeros_44 : decode cJ23_numberOfTrailingZeros 44 = .ok (.iload_n 0, 1) := dk_26 (dk_at dksJ23_numberOfTrailingZeros_1 21 rfl rfl)
theorem dJ23_numberOfTrailingZeros_45 : decode cJ23_numberOfTrailingZeros 45 = .ok (.bipush 8, 2) := dk_16 8 (dk_at dksJ23_numberOfTrailingZeros_1 22 rfl rfl)
theorem dJ23_numberOfTrailingZeros_47 : decode cJ23_numberOfTrailingZeros 47 = .ok (.iushr, 1) := dk_124 (dk_at dksJ23_numberOfTrailingZeros_2 0 rfl rfl)
theorem dJ23_numberOfTrailingZeros_48 : decode cJ23_numberOfTrailingZeros 48 = .ok (.istore_n 0, 1) := dk_59 (dk_at dksJ23_numberOfTrailingZeros_2 1 rfl rfl)
theorem dJ23_numberOfTrailingZeros_49 : decode cJ23_numberOfTrailingZeros 49 = .ok (.iload_n 0, 1) := dk_26 (dk_at dksJ23_numberOfTrailingZeros_2 2 rfl rfl)
theorem dJ23_numberOfTrailingZeros_50 : decode cJ23_numberOfTrailingZeros 50 = .ok (.bipush 16, 2) := dk_16 16 (dk_at dksJ23_numberOfTrailingZeros_2 3 rfl rfl)
theorem dJ23_numberOfTrailingZeros_52 : decode cJ23_numberOfTrailingZeros 52 = .ok (.if_icmp .le 10, 3) := dk_164 0 10 (dk_at dksJ23_numberOfTrailingZeros_2 5 rfl rfl)
theorem dJ23_numberOfTrailingZeros_55 : decode cJ23_numberOfTrailingZeros 55 = .ok (.iinc 1 4, 3) := dk_132 1 4 (dk_at dksJ23_numberOfTrailingZeros_2 8 rfl rfl)
theorem dJ23_numberOfTrailingZeros_58 : decode cJ23_numberOfTrailingZeros 58 = .ok (.iload_n 0, 1) := dk_26 (dk_at dksJ23_numberOfTrailingZeros_2 11 rfl rfl)
theorem dJ23_numberOfTrailingZeros_59 : decode cJ23_numberOfTrailingZeros 59 = .ok (.iconst 4, 1) := dk_7 (dk_at dksJ23_numberOfTrailingZeros_2 12 rfl rfl)
theorem dJ23_numberOfTrailingZeros_60 : decode cJ23_numberOfTrailingZeros 60 = .ok (.iushr, 1) := dk_124 (dk_at dksJ23_numberOfTrailingZeros_2 13 rfl rfl)
theorem dJ23_numberOfTrailingZeros_61 : decode cJ23_numberOfTrailingZeros 61 = .ok (.istore_n 0, 1) := dk_59 (dk_at dksJ23_numberOfTrailingZeros_2 14 rfl rfl)
theorem dJ23_numberOfTrailingZeros_62 : decode cJ23_numberOfTrailingZeros 62 = .ok (.iload_n 0, 1) := dk_26 (dk_at dksJ23_numberOfTrailingZeros_2 15 rfl rfl)
theorem dJ23_numberOfTrailingZeros_63 : decode cJ23_numberOfTrailingZeros 63 = .ok (.iconst 4, 1) := dk_7 (dk_at dksJ23_numberOfTrailingZeros_2 16 rfl rfl)
theorem dJ23_numberOfTrailingZeros_64 : decode cJ23_numberOfTrailingZeros 64 = .ok (.if_icmp .le 10, 3) := dk_164 0 10 (dk_at dksJ23_numberOfTrailingZeros_2 17 rfl rfl)
theorem dJ23_numberOfTrailingZeros_67 : decode cJ23_numberOfTrailingZeros 67 = .ok (.iinc 1 2, 3) := dk_132 1 2 (dk_at dksJ23_numberOfTrailingZeros_2 20 rfl rfl)
theorem dJ23_numberOfTrailingZeros_70 : decode cJ23_numberOfTrailingZeros 70 = .ok (.iload_n 0, 1) := dk_26 (dk_at dksJ23_numberOfTrailingZeros_2 23 rfl rfl)
theorem dJ23_numberOfTrailingZeros_71 : decode cJ23_numberOfTrailingZeros 71 = .ok (.iconst 2, 1) := dk_5 (dk_at dksJ23_numberOfTrailingZeros_3 0 rfl rfl)
theorem dJ23_numberOfTrailingZeros_72 : decode cJ23_numberOfTrailingZeros 72 = .ok (.iushr, 1) := dk_124 (dk_at dksJ23_numberOfTrailingZeros_3 1 rfl rfl)
theorem dJ23_numberOfTrailingZeros_73 : decode cJ23_numberOfTrailingZeros 73 = .ok (.istore_n 0, 1) := dk_59 (dk_at dksJ23_numberOfTrailingZeros_3 2 rfl rfl)
theorem dJ23_numberOfTrailingZeros_74 : decode cJ23_numberOfTrailingZeros 74 = .ok (.iload_n 1, 1) := dk_27 (dk_at dksJ23_numberOfTrailingZeros_3 3 rfl rfl)
theorem dJ23_numberOfTrailingZeros_75 : decode cJ23_numberOfTrailingZeros 75 = .ok (.iload_n 0, 1) := dk_26 (dk_at dksJ23_numberOfTrailingZeros_3 4 rfl rfl)
theorem dJ23_numberOfTrailingZeros_76 : decode cJ23_numberOfTrailingZeros 76 = .ok (.iconst 1, 1) := dk_4 (dk_at dksJ23_numberOfTrailingZeros_3 5 rfl rfl)
theorem dJ23_numberOfTrailingZeros_77 : decode cJ23_numberOfTrailingZeros 77 = .ok (.iushr, 1) := dk_124 (dk_at dksJ23_numberOfTrailingZeros_3 6 rfl rfl)
theorem dJ23_numberOfTrailingZeros_78 : decode cJ23_numberOfTrailingZeros 78 = .ok (.iadd, 1) := dk_96 (dk_at dksJ23_numberOfTrailingZeros_3 7 rfl rfl)
theorem dJ23_numberOfTrailingZeros_79 : decode cJ23_numberOfTrailingZeros 79 = .ok (.ireturn, 1) := dk_172 (dk_at dksJ23_numberOfTrailingZeros_3 8 rfl rfl)
abbrev iJ23_numberOfTrailingZeros : xM := (yJ23_numberOfTrailingZeros, cJ23_numberOfTrailingZeros, 2, (some .int), [])
theorem mJ23_numberOfTrailingZeros : xOkM iJ23_numberOfTrailingZeros := ⟨by decide +kernel, by decide, q1690, q157⟩
abbrev cJ23_equals : ByteArray := prog_31_method_34_code
def yJ23_equals : MethodName := ⟨RJ23, "equals", "(Ljava/lang/Object;)Z"⟩
def dkwJ23_equals_1 : List UInt8 := [167, 0, 4, 3, 172, 3, 172]
abbrev dktJ23_equals_1 : List UInt8 := dkwJ23_equals_1 ++ []
def dkwJ23_equals_0 : List UInt8 := [43, 193, 0, 1, 153, 0, 23, 42, 180, 0, 205, 43, 192, 0, 1, 182, 0, 211, 160, 0, 7, 4]
abbrev dktJ23_equals_0 : List UInt8 := dkwJ23_equals_0 ++ dktJ23_equals_1
theorem dksJ23_equals_0 : cJ23_equals.data.toList.drop 0 = dktJ23_equals_0 := by decide +kernel
theorem dksJ23_equals_1 : cJ23_equals.data.toList.drop 22 = dktJ23_equals_1 := dk_seg dksJ23_equals_0 22 rfl rfl
theorem dJ23_equals_0 : decode cJ23_equals 0 = .ok (.aload_n 1, 1) := dk_43 (dk_at dksJ23_equals_0 0 rfl rfl)
theorem dJ23_equals_1 : decode cJ23_equals 1 = .ok (.instanceof 1, 3) := dk_193 0 1 (dk_at dksJ23_equals_0 1 rfl rfl)
theorem dJ23_equals_4 : decode cJ23_equals 4 = .ok (.ifCond .eq 23, 3) := dk_153 0 23 (dk_at dksJ23_equals_0 4 rfl rfl)
theorem dJ23_equals_7 : decode cJ23_equals 7 = .ok (.aload_n 0, 1) := dk_42 (dk_at dksJ23_equals_0 7 rfl rfl)
theorem dJ23_equals_8 : decode cJ23_equals 8 = .ok (.getfield 205, 3) := dk_180 0 205 (dk_at dksJ23_equals_0 8 rfl rfl)
theorem dJ23_equals_11 : decode cJ23_equals 11 = .ok (.aload_n 1, 1) := dk_43 (dk_at dksJ23_equals_0 11 rfl rfl)
theorem dJ23_equals_12 : decode cJ23_equals 12 = .ok (.checkcast 1, 3) := dk_192 0 1 (dk_at dksJ23_equals_0 12 rfl rfl)
theorem dJ23_equals_15 : decode cJ23_equals 15 = .ok (.invokevirtual 211, 3) := dk_182 0 211 (dk_at dksJ23_equals_0 15 rfl rfl)
theorem dJ23_equals_18 : decode cJ23_equals 18 = .ok (.if_icmp .ne 7, 3) := dk_160 0 7 (dk_at dksJ23_equals_0 18 rfl rfl)
theorem dJ23_equals_21 : decode cJ23_equals 21 = .ok (.iconst 1, 1) := dk_4 (dk_at dksJ23_equals_0 21 rfl rfl)
theorem dJ23_equals_22 : decode cJ23_equals 22 = .ok (.goto 4, 3) := dk_167 0 4 (dk_at dksJ23_equals_1 0 rfl rfl)
theorem dJ23_equals_25 : decode cJ23_equals 25 = .ok (.iconst 0, 1) := dk_3 (dk_at dksJ23_equals_1 3 rfl rfl)
theorem dJ23_equals_26 : decode cJ23_equals 26 = .ok (.ireturn, 1) := dk_172 (dk_at dksJ23_equals_1 4 rfl rfl)
theorem dJ23_equals_27 : decode cJ23_equals 27 = .ok (.iconst 0, 1) := dk_3 (dk_at dksJ23_equals_1 5 rfl rfl)
theorem dJ23_equals_28 : decode cJ23_equals 28 = .ok (.ireturn, 1) := dk_172 (dk_at dksJ23_equals_1 6 rfl rfl)
abbrev iJ23_equals : xM := (yJ23_equals, cJ23_equals, 2, (some .boolean), [])
theorem mJ23_equals : xOkM iJ23_equals := ⟨by decide +kernel, by decide, q1822, q157⟩
abbrev cJ23_intValue : ByteArray := prog_31_method_27_code
def yJ23_intValue : MethodName := ⟨RJ23, "intValue", "()I"⟩
theorem dJ23_intValue_0 : decode cJ23_intValue 0 = .ok (.aload_n 0, 1) := by decide +kernel
theorem dJ23_intValue_1 : decode cJ23_intValue 1 = .ok (.getfield 205, 3) := by decide +kernel
theorem dJ23_intValue_4 : decode cJ23_intValue 4 = .ok (.ireturn, 1) := by decide +kernel
abbrev iJ23_intValue : xM := (yJ23_intValue, cJ23_intValue, 1, (some .int), [])
theorem mJ23_intValue : xOkM iJ23_intValue := ⟨by decide +kernel, by decide, q1826, q157⟩
abbrev cJ23_valueOf : ByteArray := prog_31_method_22_code
def yJ23_valueOf : MethodName := ⟨RJ23, "valueOf", "(I)Ljava/lang/Integer;"⟩
def dkwJ23_valueOf_1 : List UInt8 := [187, 0, 1, 89, 26, 183, 0, 199, 176]
abbrev dktJ23_valueOf_1 : List UInt8 := dkwJ23_valueOf_1 ++ []
def dkwJ23_valueOf_0 : List UInt8 := [26, 16, 128, 161, 0, 20, 26, 178, 0, 191, 163, 0, 13, 178, 0, 195, 26, 17, 0, 128, 96, 50, 176]
abbrev dktJ23_valueOf_0 : List UInt8 := dkwJ23_valueOf_0 ++ dktJ23_valueOf_1
theorem dksJ23_valueOf_0 : cJ23_valueOf.data.toList.drop 0 = dktJ23_valueOf_0 := by decide +kernel
theorem dksJ23_valueOf_1 : cJ23_valueOf.data.toList.drop 23 = dktJ23_valueOf_1 := dk_seg dksJ23_valueOf_0 23 rfl rfl
theorem dJ23_valueOf_0 : decode cJ23_valueOf 0 = .ok (.iload_n 0, 1) := dk_26 (dk_at dksJ23_valueOf_0 0 rfl rfl)
theorem dJ23_valueOf_1 : decode cJ23_valueOf 1 = .ok (.bipush (-128), 2) := dk_16 128 (dk_at dksJ23_valueOf_0 1 rfl rfl)
theorem dJ23_valueOf_3 : decode cJ23_valueOf 3 = .ok (.if_icmp .lt 20, 3) := dk_161 0 20 (dk_at dksJ23_valueOf_0 3 rfl rfl)
theorem dJ23_valueOf_6 : decode cJ23_valueOf 6 = .ok (.iload_n 0, 1) := dk_26 (dk_at dksJ23_valueOf_0 6 rfl rfl)
theorem dJ23_valueOf_7 : decode cJ23_valueOf 7 = .ok (.getstatic 191, 3) := dk_178 0 191 (dk_at dksJ23_valueOf_0 7 rfl rfl)
theorem dJ23_valueOf_10 : decode cJ23_valueOf 10 = .ok (.if_icmp .gt 13, 3) := dk_163 0 13 (dk_at dksJ23_valueOf_0 10 rfl rfl)
theorem dJ23_valueOf_13 : decode cJ23_valueOf 13 = .ok (.getstatic 195, 3) := dk_178 0 195 (dk_at dksJ23_valueOf_0 13 rfl rfl)
theorem dJ23_valueOf_16 : decode cJ23_valueOf 16 = .ok (.iload_n 0, 1) := dk_26 (dk_at dksJ23_valueOf_0 16 rfl rfl)
theorem dJ23_valueOf_17 : decode cJ23_valueOf 17 = .ok (.sipush 128, 3) := dk_17 0 128 (dk_at dksJ23_valueOf_0 17 rfl rfl)
theorem dJ23_valueOf_20 : decode cJ23_valueOf 20 = .ok (.iadd, 1) := dk_96 (dk_at dksJ23_valueOf_0 20 rfl rfl)
theorem dJ23_valueOf_21 : decode cJ23_valueOf 21 = .ok (.aaload, 1) := dk_50 (dk_at dksJ23_valueOf_0 21 rfl rfl)
theorem dJ23_valueOf_22 : decode cJ23_valueOf 22 = .ok (.areturn, 1) := dk_176 (dk_at dksJ23_valueOf_0 22 rfl rfl)
theorem dJ23_valueOf_23 : decode cJ23_valueOf 23 = .ok (.new 1, 3) := dk_187 0 1 (dk_at dksJ23_valueOf_1 0 rfl rfl)
theorem dJ23_valueOf_26 : decode cJ23_valueOf 26 = .ok (.dup, 1) := dk_89 (dk_at dksJ23_valueOf_1 3 rfl rfl)
theorem dJ23_valueOf_27 : decode cJ23_valueOf 27 = .ok (.iload_n 0, 1) := dk_26 (dk_at dksJ23_valueOf_1 4 rfl rfl)
theorem dJ23_valueOf_28 : decode cJ23_valueOf 28 = .ok (.invokespecial 199, 3) := dk_183 0 199 (dk_at dksJ23_valueOf_1 5 rfl rfl)
theorem dJ23_valueOf_31 : decode cJ23_valueOf 31 = .ok (.areturn, 1) := dk_176 (dk_at dksJ23_valueOf_1 8 rfl rfl)
abbrev iJ23_valueOf : xM := (yJ23_valueOf, cJ23_valueOf, 1, (some (.object "java/lang/Integer")), [])
theorem mJ23_valueOf : xOkM iJ23_valueOf := ⟨by decide +kernel, by decide, q2942, q157⟩
abbrev cJ23_init : ByteArray := prog_31_method_23_code
def yJ23_init : MethodName := ⟨RJ23, "<init>", "(I)V"⟩
def dkwJ23_init_0 : List UInt8 := [42, 183, 0, 202, 42, 27, 181, 0, 205, 177]
abbrev dktJ23_init_0 : List UInt8 := dkwJ23_init_0 ++ []
theorem dksJ23_init_0 : cJ23_init.data.toList.drop 0 = dktJ23_init_0 := by decide +kernel
theorem dJ23_init_0 : decode cJ23_init 0 = .ok (.aload_n 0, 1) := dk_42 (dk_at dksJ23_init_0 0 rfl rfl)
theorem dJ23_init_1 : decode cJ23_init 1 = .ok (.invokespecial 202, 3) := dk_183 0 202 (dk_at dksJ23_init_0 1 rfl rfl)
theorem dJ23_init_4 : decode cJ23_init 4 = .ok (.aload_n 0, 1) := dk_42 (dk_at dksJ23_init_0 4 rfl rfl)
theorem dJ23_init_5 : decode cJ23_init 5 = .ok (.iload_n 1, 1) := dk_27 (dk_at dksJ23_init_0 5 rfl rfl)
theorem dJ23_init_6 : decode cJ23_init 6 = .ok (.putfield 205, 3) := dk_181 0 205 (dk_at dksJ23_init_0 6 rfl rfl)
theorem dJ23_init_9 : decode cJ23_init 9 = .ok (.return_, 1) := dk_177 (dk_at dksJ23_init_0 9 rfl rfl)
abbrev iJ23_init : xM := (yJ23_init, cJ23_init, 2, none, [])
theorem mJ23_init : xOkM iJ23_init := ⟨by decide +kernel, by decide, q2950, q157⟩
abbrev cJ30_toString : ByteArray := prog_81_method_7_code
def yJ30_toString : MethodName := ⟨RJ30, "toString", "(Ljava/lang/Object;Ljava/lang/String;)Ljava/lang/String;"⟩
def dkwJ30_toString_0 : List UInt8 := [42, 198, 0, 10, 42, 182, 0, 37, 167, 0, 4, 43, 176]
abbrev dktJ30_toString_0 : List UInt8 := dkwJ30_toString_0 ++ []
theorem dksJ30_toString_0 : cJ30_toString.data.toList.drop 0 = dktJ30_toString_0 := by decide +kernel
theorem dJ30_toString_0 : decode cJ30_toString 0 = .ok (.aload_n 0, 1) := dk_42 (dk_at dksJ30_toString_0 0 rfl rfl)
theorem dJ30_toString_1 : decode cJ30_toString 1 = .ok (.ifnull 10, 3) := dk_198 0 10 (dk_at dksJ30_toString_0 1 rfl rfl)
theorem dJ30_toString_4 : decode cJ30_toString 4 = .ok (.aload_n 0, 1) := dk_42 (dk_at dksJ30_toString_0 4 rfl rfl)
theorem dJ30_toString_5 : decode cJ30_toString 5 = .ok (.invokevirtual 37, 3) := dk_182 0 37 (dk_at dksJ30_toString_0 5 rfl rfl)
theorem dJ30_toString_8 : decode cJ30_toString 8 = .ok (.goto 4, 3) := dk_167 0 4 (dk_at dksJ30_toString_0 8 rfl rfl)
theorem dJ30_toString_11 : decode cJ30_toString 11 = .ok (.aload_n 1, 1) := dk_43 (dk_at dksJ30_toString_0 11 rfl rfl)
theorem dJ30_toString_12 : decode cJ30_toString 12 = .ok (.areturn, 1) := dk_176 (dk_at dksJ30_toString_0 12 rfl rfl)
abbrev iJ30_toString : xM := (yJ30_toString, cJ30_toString, 2, (some (.object "java/lang/String")), [])
theorem mJ30_toString : xOkM iJ30_toString := ⟨by decide +kernel, by decide, q1125, q164⟩
abbrev cJ30_checkIndex : ByteArray := prog_81_method_17_code
def yJ30_checkIndex : MethodName := ⟨RJ30, "checkIndex", "(II)I"⟩
def dkwJ30_checkIndex_0 : List UInt8 := [26, 27, 1, 184, 0, 105, 172]
abbrev dktJ30_checkIndex_0 : List UInt8 := dkwJ30_checkIndex_0 ++ []
theorem dksJ30_checkIndex_0 : cJ30_checkIndex.data.toList.drop 0 = dktJ30_checkIndex_0 := by decide +kernel
theorem dJ30_checkIndex_0 : decode cJ30_checkIndex 0 = .ok (.iload_n 0, 1) := dk_26 (dk_at dksJ30_checkIndex_0 0 rfl rfl)
theorem dJ30_checkIndex_1 : decode cJ30_checkIndex 1 = .ok (.iload_n 1, 1) := dk_27 (dk_at dksJ30_checkIndex_0 1 rfl rfl)
theorem dJ30_checkIndex_2 : decode cJ30_checkIndex 2 = .ok (.aconst_null, 1) := dk_1 (dk_at dksJ30_checkIndex_0 2 rfl rfl)
theorem dJ30_checkIndex_3 : decode cJ30_checkIndex 3 = .ok (.invokestatic 105, 3) := dk_184 0 105 (dk_at dksJ30_checkIndex_0 3 rfl rfl)
theorem dJ30_checkIndex_6 : decode cJ30_checkIndex 6 = .ok (.ireturn, 1) := dk_172 (dk_at dksJ30_checkIndex_0 6 rfl rfl)
abbrev iJ30_checkIndex : xM := (yJ30_checkIndex, cJ30_checkIndex, 2, (some .int), [])
theorem mJ30_checkIndex : xOkM iJ30_checkIndex := ⟨by decide +kernel, by decide, q2140, q164⟩
abbrev cJ47_init : ByteArray := prog_30_method_2_code
def yJ47_init : MethodName := ⟨RJ47, "<init>", "(Ljava/lang/String;)V"⟩
def dkwJ47_init_0 : List UInt8 := [42, 43, 183, 0, 7, 177]
abbrev dktJ47_init_0 : List UInt8 := dkwJ47_init_0 ++ []
theorem dksJ47_init_0 : cJ47_init.data.toList.drop 0 = dktJ47_init_0 := by decide +kernel
theorem dJ47_init_0 : decode cJ47_init 0 = .ok (.aload_n 0, 1) := dk_42 (dk_at dksJ47_init_0 0 rfl rfl)
theorem dJ47_init_1 : decode cJ47_init 1 = .ok (.aload_n 1, 1) := dk_43 (dk_at dksJ47_init_0 1 rfl rfl)
theorem dJ47_init_2 : decode cJ47_init 2 = .ok (.invokespecial 7, 3) := dk_183 0 7 (dk_at dksJ47_init_0 2 rfl rfl)
theorem dJ47_init_5 : decode cJ47_init 5 = .ok (.return_, 1) := dk_177 (dk_at dksJ47_init_0 5 rfl rfl)
abbrev iJ47_init : xM := (yJ47_init, cJ47_init, 2, none, [])
theorem mJ47_init : xOkM iJ47_init := ⟨by decide +kernel, by decide, q2610, q191⟩
abbrev cJ47_init_2 : ByteArray := prog_30_method_1_code
def yJ47_init_2 : MethodName := ⟨RJ47, "<init>", "()V"⟩
theorem dJ47_init_2_0 : decode cJ47_init_2 0 = .ok (.aload_n 0, 1) := by decide +kernel
theorem dJ47_init_2_1 : decode cJ47_init_2 1 = .ok (.invokespecial 1, 3) := by decide +kernel
theorem dJ47_init_2_4 : decode cJ47_init_2 4 = .ok (.return_, 1) := by decide +kernel
abbrev iJ47_init_2 : xM := (yJ47_init_2, cJ47_init_2, 1, none, [])
theorem mJ47_init_2 : xOkM iJ47_init_2 := ⟨by decide +kernel, by decide, q2734, q191⟩
abbrev cJ12_init : ByteArray := prog_28_method_2_code
def yJ12_init : MethodName := ⟨RJ12, "<init>", "(Ljava/lang/String;)V"⟩
def dkwJ12_init_0 : List UInt8 := [42, 43, 183, 0, 7, 177]
abbrev dktJ12_init_0 : List UInt8 := dkwJ12_init_0 ++ []
theorem dksJ12_init_0 : cJ12_init.data.toList.drop 0 = dktJ12_init_0 := by decide +kernel
theorem dJ12_init_0 : decode cJ12_init 0 = .ok (.aload_n 0, 1) := dk_42 (dk_at dksJ12_init_0 0 rfl rfl)
theorem dJ12_init_1 : decode cJ12_init 1 = .ok (.aload_n 1, 1) := dk_43 (dk_at dksJ12_init_0 1 rfl rfl)
theorem dJ12_init_2 : decode cJ12_init 2 = .ok (.invokespecial 7, 3) := dk_183 0 7 (dk_at dksJ12_init_0 2 rfl rfl)
theorem dJ12_init_5 : decode cJ12_init 5 = .ok (.return_, 1) := dk_177 (dk_at dksJ12_init_0 5 rfl rfl)
abbrev iJ12_init : xM := (yJ12_init, cJ12_init, 2, none, [])
theorem mJ12_init : xOkM iJ12_init := ⟨by decide +kernel, by decide, q599, q145⟩
abbrev cJ12_init_2 : ByteArray := prog_28_method_3_code
def yJ12_init_2 : MethodName := ⟨RJ12, "<init>", "(Ljava/lang/String;Ljava/lang/Throwable;)V"⟩
def dkwJ12_init_2_0 : List UInt8 := [42, 43, 44, 183, 0, 10, 177]
abbrev dktJ12_init_2_0 : List UInt8 := dkwJ12_init_2_0 ++ []
theorem dksJ12_init_2_0 : cJ12_init_2.data.toList.drop 0 = dktJ12_init_2_0 := by decide +kernel
theorem dJ12_init_2_0 : decode cJ12_init_2 0 = .ok (.aload_n 0, 1) := dk_42 (dk_at dksJ12_init_2_0 0 rfl rfl)
theorem dJ12_init_2_1 : decode cJ12_init_2 1 = .ok (.aload_n 1, 1) := dk_43 (dk_at dksJ12_init_2_0 1 rfl rfl)
theorem dJ12_init_2_2 : decode cJ12_init_2 2 = .ok (.aload_n 2, 1) := dk_44 (dk_at dksJ12_init_2_0 2 rfl rfl)
theorem dJ12_init_2_3 : decode cJ12_init_2 3 = .ok (.invokespecial 10, 3) := dk_183 0 10 (dk_at dksJ12_init_2_0 3 rfl rfl)
theorem dJ12_init_2_6 : decode cJ12_init_2 6 = .ok (.return_, 1) := dk_177 (dk_at dksJ12_init_2_0 6 rfl rfl)
abbrev iJ12_init_2 : xM := (yJ12_init_2, cJ12_init_2, 3, none, [])
theorem mJ12_init_2 : xOkM iJ12_init_2 := ⟨by decide +kernel, by decide, q1145, q145⟩
abbrev cJ12_init_3 : ByteArray := prog_28_method_1_code
def yJ12_init_3 : MethodName := ⟨RJ12, "<init>", "()V"⟩
theorem dJ12_init_3_0 : decode cJ12_init_3 0 = .ok (.aload_n 0, 1) := by decide +kernel
theorem dJ12_init_3_1 : decode cJ12_init_3 1 = .ok (.invokespecial 1, 3) := by decide +kernel
theorem dJ12_init_3_4 : decode cJ12_init_3 4 = .ok (.return_, 1) := by decide +kernel
abbrev iJ12_init_3 : xM := (yJ12_init_3, cJ12_init_3, 1, none, [])
theorem mJ12_init_3 : xOkM iJ12_init_3 := ⟨by decide +kernel, by decide, q2750, q145⟩
abbrev cJ29_init : ByteArray := prog_29_method_3_code
def yJ29_init : MethodName := ⟨RJ29, "<init>", "(Ljava/lang/String;Ljava/lang/Throwable;)V"⟩
def dkwJ29_init_0 : List UInt8 := [42, 43, 44, 183, 0, 10, 177]
abbrev dktJ29_init_0 : List UInt8 := dkwJ29_init_0 ++ []
theorem dksJ29_init_0 : cJ29_init.data.toList.drop 0 = dktJ29_init_0 := by decide +kernel
theorem dJ29_init_0 : decode cJ29_init 0 = .ok (.aload_n 0, 1) := dk_42 (dk_at dksJ29_init_0 0 rfl rfl)
theorem dJ29_init_1 : decode cJ29_init 1 = .ok (.aload_n 1, 1) := dk_43 (dk_at dksJ29_init_0 1 rfl rfl)
theorem dJ29_init_2 : decode cJ29_init 2 = .ok (.aload_n 2, 1) := dk_44 (dk_at dksJ29_init_0 2 rfl rfl)
theorem dJ29_init_3 : decode cJ29_init 3 = .ok (.invokespecial 10, 3) := dk_183 0 10 (dk_at dksJ29_init_0 3 rfl rfl)
theorem dJ29_init_6 : decode cJ29_init 6 = .ok (.return_, 1) := dk_177 (dk_at dksJ29_init_0 6 rfl rfl)
abbrev iJ29_init : xM := (yJ29_init, cJ29_init, 3, none, [])
theorem mJ29_init : xOkM iJ29_init := ⟨by decide +kernel, by decide, q1129, q163⟩
abbrev cJ29_init_2 : ByteArray := prog_29_method_1_code
def yJ29_init_2 : MethodName := ⟨RJ29, "<init>", "()V"⟩
theorem dJ29_init_2_0 : decode cJ29_init_2 0 = .ok (.aload_n 0, 1) := by decide +kernel
theorem dJ29_init_2_1 : decode cJ29_init_2 1 = .ok (.invokespecial 1, 3) := by decide +kernel
theorem dJ29_init_2_4 : decode cJ29_init_2 4 = .ok (.return_, 1) := by decide +kernel
abbrev iJ29_init_2 : xM := (yJ29_init_2, cJ29_init_2, 1, none, [])
theorem mJ29_init_2 : xOkM iJ29_init_2 := ⟨by decide +kernel, by decide, q2758, q163⟩
abbrev cJ29_init_3 : ByteArray := prog_29_method_2_code
def yJ29_init_3 : MethodName := ⟨RJ29, "<init>", "(Ljava/lang/String;)V"⟩
def dkwJ29_init_3_0 : List UInt8 := [42, 43, 183, 0, 7, 177]
abbrev dktJ29_init_3_0 : List UInt8 := dkwJ29_init_3_0 ++ []
theorem dksJ29_init_3_0 : cJ29_init_3.data.toList.drop 0 = dktJ29_init_3_0 := by decide +kernel
theorem dJ29_init_3_0 : decode cJ29_init_3 0 = .ok (.aload_n 0, 1) := dk_42 (dk_at dksJ29_init_3_0 0 rfl rfl)
theorem dJ29_init_3_1 : decode cJ29_init_3 1 = .ok (.aload_n 1, 1) := dk_43 (dk_at dksJ29_init_3_0 1 rfl rfl)
theorem dJ29_init_3_2 : decode cJ29_init_3 2 = .ok (.invokespecial 7, 3) := dk_183 0 7 (dk_at dksJ29_init_3_0 2 rfl rfl)
theorem dJ29_init_3_5 : decode cJ29_init_3 5 = .ok (.return_, 1) := dk_177 (dk_at dksJ29_init_3_0 5 rfl rfl)
abbrev iJ29_init_3 : xM := (yJ29_init_3, cJ29_init_3, 2, none, [])
theorem mJ29_init_3 : xOkM iJ29_init_3 := ⟨by decide +kernel, by decide, q2864, q163⟩
abbrev cJ9_init : ByteArray := prog_46_method_1_code
def yJ9_init : MethodName := ⟨RJ9, "<init>", "()V"⟩
def dkwJ9_init_1 : List UInt8 := [182, 0, 27, 87, 177]
abbrev dktJ9_init_1 : List UInt8 := dkwJ9_init_1 ++ []
def dkwJ9_init_0 : List UInt8 := [42, 183, 0, 1, 42, 42, 181, 0, 7, 42, 178, 0, 13, 181, 0, 17, 42, 178, 0, 20, 181, 0, 24, 42]
abbrev dktJ9_init_0 : List UInt8 := dkwJ9_init_0 ++ dktJ9_init_1
theorem dksJ9_init_0 : cJ9_init.data.toList.drop 0 = dktJ9_init_0 := by decide +kernel
theorem dksJ9_init_1 : cJ9_init.data.toList.drop 24 = dktJ9_init_1 := dk_seg dksJ9_init_0 24 rfl rfl
theorem dJ9_init_0 : decode cJ9_init 0 = .ok (.aload_n 0, 1) := dk_42 (dk_at dksJ9_init_0 0 rfl rfl)
theorem dJ9_init_1 : decode cJ9_init 1 = .ok (.invokespecial 1, 3) := dk_183 0 1 (dk_at dksJ9_init_0 1 rfl rfl)
theorem dJ9_init_4 : decode cJ9_init 4 = .ok (.aload_n 0, 1) := dk_42 (dk_at dksJ9_init_0 4 rfl rfl)
theorem dJ9_init_5 : decode cJ9_init 5 = .ok (.aload_n 0, 1) := dk_42 (dk_at dksJ9_init_0 5 rfl rfl)
theorem dJ9_init_6 : decode cJ9_init 6 = .ok (.putfield 7, 3) := dk_181 0 7 (dk_at dksJ9_init_0 6 rfl rfl)
theorem dJ9_init_9 : decode cJ9_init 9 = .ok (.aload_n 0, 1) := dk_42 (dk_at dksJ9_init_0 9 rfl rfl)
theorem dJ9_init_10 : decode cJ9_init 10 = .ok (.getstatic 13, 3) := dk_178 0 13 (dk_at dksJ9_init_0 10 rfl rfl)
theorem dJ9_init_13 : decode cJ9_init 13 = .ok (.putfield 17, 3) := dk_181 0 17 (dk_at dksJ9_init_0 13 rfl rfl)
theorem dJ9_init_16 : decode cJ9_init 16 = .ok (.aload_n 0, 1) := dk_42 (dk_at dksJ9_init_0 16 rfl rfl)
theorem dJ9_init_17 : decode cJ9_init 17 = .ok (.getstatic 20, 3) := dk_178 0 20 (dk_at dksJ9_init_0 17 rfl rfl)
theorem dJ9_init_20 : decode cJ9_init 20 = .ok (.putfield 24, 3) := dk_181 0 24 (dk_at dksJ9_init_0 20 rfl rfl)
theorem dJ9_init_23 : decode cJ9_init 23 = .ok (.aload_n 0, 1) := dk_42 (dk_at dksJ9_init_0 23 rfl rfl)
theorem dJ9_init_24 : decode cJ9_init 24 = .ok (.invokevirtual 27, 3) := dk_182 0 27 (dk_at dksJ9_init_1 0 rfl rfl)
theorem dJ9_init_27 : decode cJ9_init 27 = .ok (.pop, 1) := dk_87 (dk_at dksJ9_init_1 3 rfl rfl)
theorem dJ9_init_28 : decode cJ9_init 28 = .ok (.return_, 1) := dk_177 (dk_at dksJ9_init_1 4 rfl rfl)
abbrev iJ9_init : xM := (yJ9_init, cJ9_init, 1, none, [])
theorem mJ9_init : xOkM iJ9_init := ⟨by decide +kernel, by decide, q354, q142⟩
abbrev cJ9_init_2 : ByteArray := prog_46_method_2_code
def yJ9_init_2 : MethodName := ⟨RJ9, "<init>", "(Ljava/lang/String;)V"⟩
def dkwJ9_init_2_1 : List UInt8 := [182, 0, 27, 87, 42, 43, 181, 0, 31, 177]
abbrev dktJ9_init_2_1 : List UInt8 := dkwJ9_init_2_1 ++ []
def dkwJ9_init_2_0 : List UInt8 := [42, 183, 0, 1, 42, 42, 181, 0, 7, 42, 178, 0, 13, 181, 0, 17, 42, 178, 0, 20, 181, 0, 24, 42]
abbrev dktJ9_init_2_0 : List UInt8 := dkwJ9_init_2_0 ++ dktJ9_init_2_1
theorem dksJ9_init_2_0 : cJ9_init_2.data.toList.drop 0 = dktJ9_init_2_0 := by decide +kernel
theorem dksJ9_init_2_1 : cJ9_init_2.data.toList.drop 24 = dktJ9_init_2_1 := dk_seg dksJ9_init_2_0 24 rfl rfl
theorem dJ9_init_2_0 : decode cJ9_init_2 0 = .ok (.aload_n 0, 1) := dk_42 (dk_at dksJ9_init_2_0 0 rfl rfl)
theorem dJ9_init_2_1 : decode cJ9_init_2 1 = .ok (.invokespecial 1, 3) := dk_183 0 1 (dk_at dksJ9_init_2_0 1 rfl rfl)
theorem dJ9_init_2_4 : decode cJ9_init_2 4 = .ok (.aload_n 0, 1) := dk_42 (dk_at dksJ9_init_2_0 4 rfl rfl)
theorem dJ9_init_2_5 : decode cJ9_init_2 5 = .ok (.aload_n 0, 1) := dk_42 (dk_at dksJ9_init_2_0 5 rfl rfl)
theorem dJ9_init_2_6 : decode cJ9_init_2 6 = .ok (.putfield 7, 3) := dk_181 0 7 (dk_at dksJ9_init_2_0 6 rfl rfl)
theorem dJ9_init_2_9 : decode cJ9_init_2 9 = .ok (.aload_n 0, 1) := dk_42 (dk_at dksJ9_init_2_0 9 rfl rfl)
theorem dJ9_init_2_10 : decode cJ9_init_2 10 = .ok (.getstatic 13, 3) := dk_178 0 13 (dk_at dksJ9_init_2_0 10 rfl rfl)
theorem dJ9_init_2_13 : decode cJ9_init_2 13 = .ok (.putfield 17, 3) := dk_181 0 17 (dk_at dksJ9_init_2_0 13 rfl rfl)
theorem dJ9_init_2_16 : decode cJ9_init_2 16 = .ok (.aload_n 0, 1) := dk_42 (dk_at dksJ9_init_2_0 16 rfl rfl)
theorem dJ9_init_2_17 : decode cJ9_init_2 17 = .ok (.getstatic 20, 3) := dk_178 0 20 (dk_at dksJ9_init_2_0 17 rfl rfl)
theorem dJ9_init_2_20 : decode cJ9_init_2 20 = .ok (.putfield 24, 3) := dk_181 0 24 (dk_at dksJ9_init_2_0 20 rfl rfl)
theorem dJ9_init_2_23 : decode cJ9_init_2 23 = .ok (.aload_n 0, 1) := dk_42 (dk_at dksJ9_init_2_0 23 rfl rfl)
theorem dJ9_init_2_24 : decode cJ9_init_2 24 = .ok (.invokevirtual 27, 3) := dk_182 0 27 (dk_at dksJ9_init_2_1 0 rfl rfl)
theorem dJ9_init_2_27 : decode cJ9_init_2 27 = .ok (.pop, 1) := dk_87 (dk_at dksJ9_init_2_1 3 rfl rfl)
theorem dJ9_init_2_28 : decode cJ9_init_2 28 = .ok (.aload_n 0, 1) := dk_42 (dk_at dksJ9_init_2_1 4 rfl rfl)
theorem dJ9_init_2_29 : decode cJ9_init_2 29 = .ok (.aload_n 1, 1) := dk_43 (dk_at dksJ9_init_2_1 5 rfl rfl)
theorem dJ9_init_2_30 : decode cJ9_init_2 30 = .ok (.putfield 31, 3) := dk_181 0 31 (dk_at dksJ9_init_2_1 6 rfl rfl)
theorem dJ9_init_2_33 : decode cJ9_init_2 33 = .ok (.return_, 1) := dk_177 (dk_at dksJ9_init_2_1 9 rfl rfl)
abbrev iJ9_init_2 : xM := (yJ9_init_2, cJ9_init_2, 2, none, [])
theorem mJ9_init_2 : xOkM iJ9_init_2 := ⟨by decide +kernel, by decide, q608, q142⟩
abbrev cJ9_toString : ByteArray := prog_46_method_11_code
def yJ9_toString : MethodName := ⟨RJ9, "toString", "()Ljava/lang/String;"⟩
def dkwJ9_toString_1 : List UInt8 := [43, 182, 0, 49, 18, 81, 182, 0, 49, 44, 182, 0, 49, 182, 0, 60, 167, 0, 4, 43, 176]
abbrev dktJ9_toString_1 : List UInt8 := dkwJ9_toString_1 ++ []
def dkwJ9_toString_0 : List UInt8 := [42, 182, 0, 69, 182, 0, 73, 76, 42, 182, 0, 78, 77, 44, 198, 0, 29, 187, 0, 44, 89, 183, 0, 46]
abbrev dktJ9_toString_0 : List UInt8 := dkwJ9_toString_0 ++ dktJ9_toString_1
theorem dksJ9_toString_0 : cJ9_toString.data.toList.drop 0 = dktJ9_toString_0 := by decide +kernel
theorem dksJ9_toString_1 : cJ9_toString.data.toList.drop 24 = dktJ9_toString_1 := dk_seg dksJ9_toString_0 24 rfl rfl
theorem dJ9_toString_0 : decode cJ9_toString 0 = .ok (.aload_n 0, 1) := dk_42 (dk_at dksJ9_toString_0 0 rfl rfl)
theorem dJ9_toString_1 : decode cJ9_toString 1 = .ok (.invokevirtual 69, 3) := dk_182 0 69 (dk_at dksJ9_toString_0 1 rfl rfl)
theorem dJ9_toString_4 : decode cJ9_toString 4 = .ok (.invokevirtual 73, 3) := dk_182 0 73 (dk_at dksJ9_toString_0 4 rfl rfl)
theorem dJ9_toString_7 : decode cJ9_toString 7 = .ok (.astore_n 1, 1) := dk_76 (dk_at dksJ9_toString_0 7 rfl rfl)
theorem dJ9_toString_8 : decode cJ9_toString 8 = .ok (.aload_n 0, 1) := dk_42 (dk_at dksJ9_toString_0 8 rfl rfl)
theorem dJ9_toString_9 : decode cJ9_toString 9 = .ok (.invokevirtual 78, 3) := dk_182 0 78 (dk_at dksJ9_toString_0 9 rfl rfl)
theorem dJ9_toString_12 : decode cJ9_toString 12 = .ok (.astore_n 2, 1) := dk_77 (dk_at dksJ9_toString_0 12 rfl rfl)
theorem dJ9_toString_13 : decode cJ9_toString 13 = .ok (.aload_n 2, 1) := dk_44 (dk_at dksJ9_toString_0 13 rfl rfl)
theorem dJ9_toString_14 : decode cJ9_toString 14 = .ok (.ifnull 29, 3) := dk_198 0 29 (dk_at dksJ9_toString_0 14 rfl rfl)
theorem dJ9_toString_17 : decode cJ9_toString 17 = .ok (.new 44, 3) := dk_187 0 44 (dk_at dksJ9_toString_0 17 rfl rfl)
theorem dJ9_toString_20 : decode cJ9_toString 20 = .ok (.dup, 1) := dk_89 (dk_at dksJ9_toString_0 20 rfl rfl)
theorem dJ9_toString_21 : decode cJ9_toString 21 = .ok (.invokespecial 46, 3) := dk_183 0 46 (dk_at dksJ9_toString_0 21 rfl rfl)
theorem dJ9_toString_24 : decode cJ9_toString 24 = .ok (.aload_n 1, 1) := dk_43 (dk_at dksJ9_toString_1 0 rfl rfl)
theorem dJ9_toString_25 : decode cJ9_toString 25 = .ok (.invokevirtual 49, 3) := dk_182 0 49 (dk_at dksJ9_toString_1 1 rfl rfl)
theorem dJ9_toString_28 : decode cJ9_toString 28 = .ok (.ldc 81, 2) := dk_18 81 (dk_at dksJ9_toString_1 4 rfl rfl)
theorem dJ9_toString_30 : decode cJ9_toString 30 = .ok (.invokevirtual 49, 3) := dk_182 0 49 (dk_at dksJ9_toString_1 6 rfl rfl)
theorem dJ9_toString_33 : decode cJ9_toString 33 = .ok (.aload_n 2, 1) := dk_44 (dk_at dksJ9_toString_1 9 rfl rfl)
theorem dJ9_toString_34 : decode cJ9_toString 34 = .ok (.invokevirtual 49, 3) := dk_182 0 49 (dk_at dksJ9_toString_1 10 rfl rfl)
theorem dJ9_toString_37 : decode cJ9_toString 37 = .ok (.invokevirtual 60, 3) := dk_182 0 60 (dk_at dksJ9_toString_1 13 rfl rfl)
theorem dJ9_toString_40 : decode cJ9_toString 40 = .ok (.goto 4, 3) := dk_167 0 4 (dk_at dksJ9_toString_1 16 rfl rfl)
theorem dJ9_toString_43 : decode cJ9_toString 43 = .ok (.aload_n 1, 1) := dk_43 (dk_at dksJ9_toString_1 19 rfl rfl)
theorem dJ9_toString_44 : decode cJ9_toString 44 = .ok (.areturn, 1) := dk_176 (dk_at dksJ9_toString_1 20 rfl rfl)
abbrev iJ9_toString : xM := (yJ9_toString, cJ9_toString, 3, (some (.object "java/lang/String")), [])
theorem mJ9_toString : xOkM iJ9_toString := ⟨by decide +kernel, by decide, q987, q142⟩
abbrev cJ9_getLocalizedMessage : ByteArray := prog_46_method_7_code
def yJ9_getLocalizedMessage : MethodName := ⟨RJ9, "getLocalizedMessage", "()Ljava/lang/String;"⟩
theorem dJ9_getLocalizedMessage_0 : decode cJ9_getLocalizedMessage 0 = .ok (.aload_n 0, 1) := by decide +kernel
theorem dJ9_getLocalizedMessage_1 : decode cJ9_getLocalizedMessage 1 = .ok (.invokevirtual 39, 3) := by decide +kernel
theorem dJ9_getLocalizedMessage_4 : decode cJ9_getLocalizedMessage 4 = .ok (.areturn, 1) := by decide +kernel
abbrev iJ9_getLocalizedMessage : xM := (yJ9_getLocalizedMessage, cJ9_getLocalizedMessage, 1, (some (.object "java/lang/String")), [])
theorem mJ9_getLocalizedMessage : xOkM iJ9_getLocalizedMessage := ⟨by decide +kernel, by decide, q1043, q142⟩
abbrev cJ9_getMessage : ByteArray := prog_46_method_6_code
def yJ9_getMessage : MethodName := ⟨RJ9, "getMessage", "()Ljava/lang/String;"⟩
theorem dJ9_getMessage_0 : decode cJ9_getMessage 0 = .ok (.aload_n 0, 1) := by decide +kernel
theorem dJ9_getMessage_1 : decode cJ9_getMessage 1 = .ok (.getfield 31, 3) := by decide +kernel
theorem dJ9_getMessage_4 : decode cJ9_getMessage 4 = .ok (.areturn, 1) := by decide +kernel
abbrev iJ9_getMessage : xM := (yJ9_getMessage, cJ9_getMessage, 1, (some (.object "java/lang/String")), [])
theorem mJ9_getMessage : xOkM iJ9_getMessage := ⟨by decide +kernel, by decide, q1054, q142⟩
abbrev cJ9_init_3 : ByteArray := prog_46_method_3_code
def yJ9_init_3 : MethodName := ⟨RJ9, "<init>", "(Ljava/lang/String;Ljava/lang/Throwable;)V"⟩
def dkwJ9_init_3_1 : List UInt8 := [182, 0, 27, 87, 42, 43, 181, 0, 31, 42, 44, 181, 0, 7, 177]
abbrev dktJ9_init_3_1 : List UInt8 := dkwJ9_init_3_1 ++ []
def dkwJ9_init_3_0 : List UInt8 := [42, 183, 0, 1, 42, 42, 181, 0, 7, 42, 178, 0, 13, 181, 0, 17, 42, 178, 0, 20, 181, 0, 24, 42]
abbrev dktJ9_init_3_0 : List UInt8 := dkwJ9_init_3_0 ++ dktJ9_init_3_1
theorem dksJ9_init_3_0 : cJ9_init_3.data.toList.drop 0 = dktJ9_init_3_0 := by decide +kernel
theorem dksJ9_init_3_1 : cJ9_init_3.data.toList.drop 24 = dktJ9_init_3_1 := dk_seg dksJ9_init_3_0 24 rfl rfl
theorem dJ9_init_3_0 : decode cJ9_init_3 0 = .ok (.aload_n 0, 1) := dk_42 (dk_at dksJ9_init_3_0 0 rfl rfl)
theorem dJ9_init_3_1 : decode cJ9_init_3 1 = .ok (.invokespecial 1, 3) := dk_183 0 1 (dk_at dksJ9_init_3_0 1 rfl rfl)
theorem dJ9_init_3_4 : decode cJ9_init_3 4 = .ok (.aload_n 0, 1) := dk_42 (dk_at dksJ9_init_3_0 4 rfl rfl)
theorem dJ9_init_3_5 : decode cJ9_init_3 5 = .ok (.aload_n 0, 1) := dk_42 (dk_at dksJ9_init_3_0 5 rfl rfl)
theorem dJ9_init_3_6 : decode cJ9_init_3 6 = .ok (.putfield 7, 3) := dk_181 0 7 (dk_at dksJ9_init_3_0 6 rfl rfl)
theorem dJ9_init_3_9 : decode cJ9_init_3 9 = .ok (.aload_n 0, 1) := dk_42 (dk_at dksJ9_init_3_0 9 rfl rfl)
theorem dJ9_init_3_10 : decode cJ9_init_3 10 = .ok (.getstatic 13, 3) := dk_178 0 13 (dk_at dksJ9_init_3_0 10 rfl rfl)
theorem dJ9_init_3_13 : decode cJ9_init_3 13 = .ok (.putfield 17, 3) := dk_181 0 17 (dk_at dksJ9_init_3_0 13 rfl rfl)
theorem dJ9_init_3_16 : decode cJ9_init_3 16 = .ok (.aload_n 0, 1) := dk_42 (dk_at dksJ9_init_3_0 16 rfl rfl)
theorem dJ9_init_3_17 : decode cJ9_init_3 17 = .ok (.getstatic 20, 3) := dk_178 0 20 (dk_at dksJ9_init_3_0 17 rfl rfl)
theorem dJ9_init_3_20 : decode cJ9_init_3 20 = .ok (.putfield 24, 3) := dk_181 0 24 (dk_at dksJ9_init_3_0 20 rfl rfl)
theorem dJ9_init_3_23 : decode cJ9_init_3 23 = .ok (.aload_n 0, 1) := dk_42 (dk_at dksJ9_init_3_0 23 rfl rfl)
theorem dJ9_init_3_24 : decode cJ9_init_3 24 = .ok (.invokevirtual 27, 3) := dk_182 0 27 (dk_at dksJ9_init_3_1 0 rfl rfl)
theorem dJ9_init_3_27 : decode cJ9_init_3 27 = .ok (.pop, 1) := dk_87 (dk_at dksJ9_init_3_1 3 rfl rfl)
theorem dJ9_init_3_28 : decode cJ9_init_3 28 = .ok (.aload_n 0, 1) := dk_42 (dk_at dksJ9_init_3_1 4 rfl rfl)
theorem dJ9_init_3_29 : decode cJ9_init_3 29 = .ok (.aload_n 1, 1) := dk_43 (dk_at dksJ9_init_3_1 5 rfl rfl)
theorem dJ9_init_3_30 : decode cJ9_init_3 30 = .ok (.putfield 31, 3) := dk_181 0 31 (dk_at dksJ9_init_3_1 6 rfl rfl)
theorem dJ9_init_3_33 : decode cJ9_init_3 33 = .ok (.aload_n 0, 1) := dk_42 (dk_at dksJ9_init_3_1 9 rfl rfl)
theorem dJ9_init_3_34 : decode cJ9_init_3 34 = .ok (.aload_n 2, 1) := dk_44 (dk_at dksJ9_init_3_1 10 rfl rfl)
theorem dJ9_init_3_35 : decode cJ9_init_3 35 = .ok (.putfield 7, 3) := dk_181 0 7 (dk_at dksJ9_init_3_1 11 rfl rfl)
theorem dJ9_init_3_38 : decode cJ9_init_3 38 = .ok (.return_, 1) := dk_177 (dk_at dksJ9_init_3_1 14 rfl rfl)
abbrev iJ9_init_3 : xM := (yJ9_init_3, cJ9_init_3, 3, none, [])
theorem mJ9_init_3 : xOkM iJ9_init_3 := ⟨by decide +kernel, by decide, q1138, q142⟩
abbrev cJ9_init_4 : ByteArray := prog_46_method_5_code
def yJ9_init_4 : MethodName := ⟨RJ9, "<init>", "(Ljava/lang/String;Ljava/lang/Throwable;ZZ)V"⟩
def dkwJ9_init_4_2 : List UInt8 := [44, 181, 0, 7, 29, 154, 0, 8, 42, 1, 181, 0, 24, 177]
abbrev dktJ9_init_4_2 : List UInt8 := dkwJ9_init_4_2 ++ []
def dkwJ9_init_4_1 : List UInt8 := [21, 4, 153, 0, 11, 42, 182, 0, 27, 87, 167, 0, 8, 42, 1, 181, 0, 17, 42, 43, 181, 0, 31, 42]
abbrev dktJ9_init_4_1 : List UInt8 := dkwJ9_init_4_1 ++ dktJ9_init_4_2
def dkwJ9_init_4_0 : List UInt8 := [42, 183, 0, 1, 42, 42, 181, 0, 7, 42, 178, 0, 13, 181, 0, 17, 42, 178, 0, 20, 181, 0, 24]
abbrev dktJ9_init_4_0 : List UInt8 := dkwJ9_init_4_0 ++ dktJ9_init_4_1
theorem dksJ9_init_4_0 : cJ9_init_4.data.toList.drop 0 = dktJ9_init_4_0 := by decide +kernel
theorem dksJ9_init_4_1 : cJ9_init_4.data.toList.drop 23 = dktJ9_init_4_1 := dk_seg dksJ9_init_4_0 23 rfl rfl
theorem dksJ9_init_4_2 : cJ9_init_4.data.toList.drop 47 = dktJ9_init_4_2 := dk_seg dksJ9_init_4_1 24 rfl rfl
theorem dJ9_init_4_0 : decode cJ9_init_4 0 = .ok (.aload_n 0, 1) := dk_42 (dk_at dksJ9_init_4_0 0 rfl rfl)
theorem dJ9_init_4_1 : decode cJ9_init_4 1 = .ok (.invokespecial 1, 3) := dk_183 0 1 (dk_at dksJ9_init_4_0 1 rfl rfl)
theorem dJ9_init_4_4 : decode cJ9_init_4 4 = .ok (.aload_n 0, 1) := dk_42 (dk_at dksJ9_init_4_0 4 rfl rfl)
theorem dJ9_init_4_5 : decode cJ9_init_4 5 = .ok (.aload_n 0, 1) := dk_42 (dk_at dksJ9_init_4_0 5 rfl rfl)
theorem dJ9_init_4_6 : decode cJ9_init_4 6 = .ok (.putfield 7, 3) := dk_181 0 7 (dk_at dksJ9_init_4_0 6 rfl rfl)
theorem dJ9_init_4_9 : decode cJ9_init_4 9 = .ok (.aload_n 0, 1) := dk_42 (dk_at dksJ9_init_4_0 9 rfl rfl)
theorem dJ9_init_4_10 : decode cJ9_init_4 10 = .ok (.getstatic 13, 3) := dk_178 0 13 (dk_at dksJ9_init_4_0 10 rfl rfl)
theorem dJ9_init_4_13 : decode cJ9_init_4 13 = .ok (.putfield 17, 3) := dk_181 0 17 (dk_at dksJ9_init_4_0 13 rfl rfl)
theorem dJ9_init_4_16 : decode cJ9_init_4 16 = .ok (.aload_n 0, 1) := dk_42 (dk_at dksJ9_init_4_0 16 rfl rfl)
theorem dJ9_init_4_17 : decode cJ9_init_4 17 = .ok (.getstatic 20, 3) := dk_178 0 20 (dk_at dksJ9_init_4_0 17 rfl rfl)
theorem dJ9_init_4_20 : decode cJ9_init_4 20 = .ok (.putfield 24, 3) := dk_181 0 24 (dk_at dksJ9_init_4_0 20 rfl rfl)
theorem dJ9_init_4_23 : decode cJ9_init_4 23 = .ok (.iload 4, 2) := dk_21 4 (dk_at dksJ9_init_4_1 0 rfl rfl)
theorem dJ9_init_4_25 : decode cJ9_init_4 25 = .ok (.ifCond .eq 11, 3) := dk_153 0 11 (dk_at dksJ9_init_4_1 2 rfl rfl)
theorem dJ9_init_4_28 : decode cJ9_init_4 28 = .ok (.aload_n 0, 1) := dk_42 (dk_at dksJ9_init_4_1 5 rfl rfl)
theorem dJ9_init_4_29 : decode cJ9_init_4 29 = .ok (.invokevirtual 27, 3) := dk_182 0 27 (dk_at dksJ9_init_4_1 6 rfl rfl)
theorem dJ9_init_4_32 : decode cJ9_init_4 32 = .ok (.pop, 1) := dk_87 (dk_at dksJ9_init_4_1 9 rfl rfl)
theorem dJ9_init_4_33 : decode cJ9_init_4 33 = .ok (.goto 8, 3) := dk_167 0 8 (dk_at dksJ9_init_4_1 10 rfl rfl)
theorem dJ9_init_4_36 : decode cJ9_init_4 36 = .ok (.aload_n 0, 1) := dk_42 (dk_at dksJ9_init_4_1 13 rfl rfl)
theorem dJ9_init_4_37 : decode cJ9_init_4 37 = .ok (.aconst_null, 1) := dk_1 (dk_at dksJ9_init_4_1 14 rfl rfl)
theorem dJ9_init_4_38 : decode cJ9_init_4 38 = .ok (.putfield 17, 3) := dk_181 0 17 (dk_at dksJ9_init_4_1 15 rfl rfl)
theorem dJ9_init_4_41 : decode cJ9_init_4 41 = .ok (.aload_n 0, 1) := dk_42 (dk_at dksJ9_init_4_1 18 rfl rfl)
theorem dJ9_init_4_42 : decode cJ9_init_4 42 = .ok (.aload_n 1, 1) := dk_43 (dk_at dksJ9_init_4_1 19 rfl rfl)
theorem dJ9_init_4_43 : decode cJ9_init_4 43 = .ok (.putfield 31, 3) := dk_181 0 31 (dk_at dksJ9_init_4_1 20 rfl rfl)
theorem dJ9_init_4_46 : decode cJ9_init_4 46 = .ok (.aload_n 0, 1) := dk_42 (dk_at dksJ9_init_4_1 23 rfl rfl)
theorem dJ9_init_4_47 : decode cJ9_init_4 47 = .ok (.aload_n 2, 1) := dk_44 (dk_at dksJ9_init_4_2 0 rfl rfl)
theorem dJ9_init_4_48 : decode cJ9_init_4 48 = .ok (.putfield 7, 3) := dk_181 0 7 (dk_at dksJ9_init_4_2 1 rfl rfl)
theorem dJ9_init_4_51 : decode cJ9_init_4 51 = .ok (.iload_n 3, 1) := dk_29 (dk_at dksJ9_init_4_2 4 rfl rfl)
theorem dJ9_init_4_52 : decode cJ9_init_4 52 = .ok (.ifCond .ne 8, 3) := dk_154 0 8 (dk_at dksJ9_init_4_2 5 rfl rfl)
theorem dJ9_init_4_55 : decode cJ9_init_4 55 = .ok (.aload_n 0, 1) := dk_42 (dk_at dksJ9_init_4_2 8 rfl rfl)
theorem dJ9_init_4_56 : decode cJ9_init_4 56 = .ok (.aconst_null, 1) := dk_1 (dk_at dksJ9_init_4_2 9 rfl rfl)
theorem dJ9_init_4_57 : decode cJ9_init_4 57 = .ok (.putfield 24, 3) := dk_181 0 24 (dk_at dksJ9_init_4_2 10 rfl rfl)
theorem dJ9_init_4_60 : decode cJ9_init_4 60 = .ok (.return_, 1) := dk_177 (dk_at dksJ9_init_4_2 13 rfl rfl)
abbrev iJ9_init_4 : xM := (yJ9_init_4, cJ9_init_4, 5, none, [])
theorem mJ9_init_4 : xOkM iJ9_init_4 := ⟨by decide +kernel, by decide, q2094, q142⟩
abbrev cJ10_init : ByteArray := prog_26_method_2_code
def yJ10_init : MethodName := ⟨RJ10, "<init>", "(Ljava/lang/String;)V"⟩
def dkwJ10_init_0 : List UInt8 := [42, 43, 183, 0, 7, 177]
abbrev dktJ10_init_0 : List UInt8 := dkwJ10_init_0 ++ []
theorem dksJ10_init_0 : cJ10_init.data.toList.drop 0 = dktJ10_init_0 := by decide +kernel
theorem dJ10_init_0 : decode cJ10_init 0 = .ok (.aload_n 0, 1) := dk_42 (dk_at dksJ10_init_0 0 rfl rfl)
theorem dJ10_init_1 : decode cJ10_init 1 = .ok (.aload_n 1, 1) := dk_43 (dk_at dksJ10_init_0 1 rfl rfl)
theorem dJ10_init_2 : decode cJ10_init 2 = .ok (.invokespecial 7, 3) := dk_183 0 7 (dk_at dksJ10_init_0 2 rfl rfl)
theorem dJ10_init_5 : decode cJ10_init 5 = .ok (.return_, 1) := dk_177 (dk_at dksJ10_init_0 5 rfl rfl)
abbrev iJ10_init : xM := (yJ10_init, cJ10_init, 2, none, [])
theorem mJ10_init : xOkM iJ10_init := ⟨by decide +kernel, by decide, q605, q143⟩
abbrev cJ10_init_2 : ByteArray := prog_26_method_3_code
def yJ10_init_2 : MethodName := ⟨RJ10, "<init>", "(Ljava/lang/String;Ljava/lang/Throwable;)V"⟩
def dkwJ10_init_2_0 : List UInt8 := [42, 43, 44, 183, 0, 10, 177]
abbrev dktJ10_init_2_0 : List UInt8 := dkwJ10_init_2_0 ++ []
theorem dksJ10_init_2_0 : cJ10_init_2.data.toList.drop 0 = dktJ10_init_2_0 := by decide +kernel
theorem dJ10_init_2_0 : decode cJ10_init_2 0 = .ok (.aload_n 0, 1) := dk_42 (dk_at dksJ10_init_2_0 0 rfl rfl)
theorem dJ10_init_2_1 : decode cJ10_init_2 1 = .ok (.aload_n 1, 1) := dk_43 (dk_at dksJ10_init_2_0 1 rfl rfl)
theorem dJ10_init_2_2 : decode cJ10_init_2 2 = .ok (.aload_n 2, 1) := dk_44 (dk_at dksJ10_init_2_0 2 rfl rfl)
theorem dJ10_init_2_3 : decode cJ10_init_2 3 = .ok (.invokespecial 10, 3) := dk_183 0 10 (dk_at dksJ10_init_2_0 3 rfl rfl)
theorem dJ10_init_2_6 : decode cJ10_init_2 6 = .ok (.return_, 1) := dk_177 (dk_at dksJ10_init_2_0 6 rfl rfl)
abbrev iJ10_init_2 : xM := (yJ10_init_2, cJ10_init_2, 3, none, [])
theorem mJ10_init_2 : xOkM iJ10_init_2 := ⟨by decide +kernel, by decide, q1135, q143⟩
abbrev cJ10_init_3 : ByteArray := prog_26_method_5_code
def yJ10_init_3 : MethodName := ⟨RJ10, "<init>", "(Ljava/lang/String;Ljava/lang/Throwable;ZZ)V"⟩
def dkwJ10_init_3_0 : List UInt8 := [42, 43, 44, 29, 21, 4, 183, 0, 16, 177]
abbrev dktJ10_init_3_0 : List UInt8 := dkwJ10_init_3_0 ++ []
theorem dksJ10_init_3_0 : cJ10_init_3.data.toList.drop 0 = dktJ10_init_3_0 := by decide +kernel
theorem dJ10_init_3_0 : decode cJ10_init_3 0 = .ok (.aload_n 0, 1) := dk_42 (dk_at dksJ10_init_3_0 0 rfl rfl)
theorem dJ10_init_3_1 : decode cJ10_init_3 1 = .ok (.aload_n 1, 1) := dk_43 (dk_at dksJ10_init_3_0 1 rfl rfl)
theorem dJ10_init_3_2 : decode cJ10_init_3 2 = .ok (.aload_n 2, 1) := dk_44 (dk_at dksJ10_init_3_0 2 rfl rfl)
theorem dJ10_init_3_3 : decode cJ10_init_3 3 = .ok (.iload_n 3, 1) := dk_29 (dk_at dksJ10_init_3_0 3 rfl rfl)
theorem dJ10_init_3_4 : decode cJ10_init_3 4 = .ok (.iload 4, 2) := dk_21 4 (dk_at dksJ10_init_3_0 4 rfl rfl)
theorem dJ10_init_3_6 : decode cJ10_init_3 6 = .ok (.invokespecial 16, 3) := dk_183 0 16 (dk_at dksJ10_init_3_0 6 rfl rfl)
theorem dJ10_init_3_9 : decode cJ10_init_3 9 = .ok (.return_, 1) := dk_177 (dk_at dksJ10_init_3_0 9 rfl rfl)
abbrev iJ10_init_3 : xM := (yJ10_init_3, cJ10_init_3, 5, none, [])
theorem mJ10_init_3 : xOkM iJ10_init_3 := ⟨by decide +kernel, by decide, q2091, q143⟩
abbrev cJ10_init_4 : ByteArray := prog_26_method_1_code
def yJ10_init_4 : MethodName := ⟨RJ10, "<init>", "()V"⟩
theorem dJ10_init_4_0 : decode cJ10_init_4 0 = .ok (.aload_n 0, 1) := by decide +kernel
theorem dJ10_init_4_1 : decode cJ10_init_4 1 = .ok (.invokespecial 1, 3) := by decide +kernel
theorem dJ10_init_4_4 : decode cJ10_init_4 4 = .ok (.return_, 1) := by decide +kernel
abbrev iJ10_init_4 : xM := (yJ10_init_4, cJ10_init_4, 1, none, [])
theorem mJ10_init_4 : xOkM iJ10_init_4 := ⟨by decide +kernel, by decide, q2740, q143⟩
abbrev cJ11_init : ByteArray := prog_37_method_2_code
def yJ11_init : MethodName := ⟨RJ11, "<init>", "(Ljava/lang/String;)V"⟩
def dkwJ11_init_0 : List UInt8 := [42, 43, 183, 0, 7, 177]
abbrev dktJ11_init_0 : List UInt8 := dkwJ11_init_0 ++ []
theorem dksJ11_init_0 : cJ11_init.data.toList.drop 0 = dktJ11_init_0 := by decide +kernel
theorem dJ11_init_0 : decode cJ11_init 0 = .ok (.aload_n 0, 1) := dk_42 (dk_at dksJ11_init_0 0 rfl rfl)
theorem dJ11_init_1 : decode cJ11_init 1 = .ok (.aload_n 1, 1) := dk_43 (dk_at dksJ11_init_0 1 rfl rfl)
theorem dJ11_init_2 : decode cJ11_init 2 = .ok (.invokespecial 7, 3) := dk_183 0 7 (dk_at dksJ11_init_0 2 rfl rfl)
theorem dJ11_init_5 : decode cJ11_init 5 = .ok (.return_, 1) := dk_177 (dk_at dksJ11_init_0 5 rfl rfl)
abbrev iJ11_init : xM := (yJ11_init, cJ11_init, 2, none, [])
theorem mJ11_init : xOkM iJ11_init := ⟨by decide +kernel, by decide, q602, q144⟩
abbrev cJ11_init_2 : ByteArray := prog_37_method_3_code
def yJ11_init_2 : MethodName := ⟨RJ11, "<init>", "(Ljava/lang/String;Ljava/lang/Throwable;)V"⟩
def dkwJ11_init_2_0 : List UInt8 := [42, 43, 44, 183, 0, 10, 177]
abbrev dktJ11_init_2_0 : List UInt8 := dkwJ11_init_2_0 ++ []
theorem dksJ11_init_2_0 : cJ11_init_2.data.toList.drop 0 = dktJ11_init_2_0 := by decide +kernel
theorem dJ11_init_2_0 : decode cJ11_init_2 0 = .ok (.aload_n 0, 1) := dk_42 (dk_at dksJ11_init_2_0 0 rfl rfl)
theorem dJ11_init_2_1 : decode cJ11_init_2 1 = .ok (.aload_n 1, 1) := dk_43 (dk_at dksJ11_init_2_0 1 rfl rfl)
theorem dJ11_init_2_2 : decode cJ11_init_2 2 = .ok (.aload_n 2, 1) := dk_44 (dk_at dksJ11_init_2_0 2 rfl rfl)
theorem dJ11_init_2_3 : decode cJ11_init_2 3 = .ok (.invokespecial 10, 3) := dk_183 0 10 (dk_at dksJ11_init_2_0 3 rfl rfl)
theorem dJ11_init_2_6 : decode cJ11_init_2 6 = .ok (.return_, 1) := dk_177 (dk_at dksJ11_init_2_0 6 rfl rfl)
abbrev iJ11_init_2 : xM := (yJ11_init_2, cJ11_init_2, 3, none, [])
theorem mJ11_init_2 : xOkM iJ11_init_2 := ⟨by decide +kernel, by decide, q1132, q144⟩
abbrev cJ11_init_3 : ByteArray := prog_37_method_1_code
def yJ11_init_3 : MethodName := ⟨RJ11, "<init>", "()V"⟩
theorem dJ11_init_3_0 : decode cJ11_init_3 0 = .ok (.aload_n 0, 1) := by decide +kernel
theorem dJ11_init_3_1 : decode cJ11_init_3 1 = .ok (.invokespecial 1, 3) := by decide +kernel
theorem dJ11_init_3_4 : decode cJ11_init_3 4 = .ok (.return_, 1) := by decide +kernel
abbrev iJ11_init_3 : xM := (yJ11_init_3, cJ11_init_3, 1, none, [])
theorem mJ11_init_3 : xOkM iJ11_init_3 := ⟨by decide +kernel, by decide, q2737, q144⟩
abbrev cJ37_toString : ByteArray := prog_24_method_4_code
def yJ37_toString : MethodName := ⟨RJ37, "toString", "()Ljava/lang/String;"⟩
theorem dJ37_toString_0 : decode cJ37_toString 0 = .ok (.aload_n 0, 1) := by decide +kernel
theorem dJ37_toString_1 : decode cJ37_toString 1 = .ok (.getfield 1, 3) := by decide +kernel
theorem dJ37_toString_4 : decode cJ37_toString 4 = .ok (.areturn, 1) := by decide +kernel
abbrev iJ37_toString : xM := (yJ37_toString, cJ37_toString, 1, (some (.object "java/lang/String")), [])
theorem mJ37_toString : xOkM iJ37_toString := ⟨by decide +kernel, by decide, q1066, q177⟩
abbrev cJ37_hashCode : ByteArray := prog_24_method_6_code
def yJ37_hashCode : MethodName := ⟨RJ37, "hashCode", "()I"⟩
def dkwJ37_hashCode_0 : List UInt8 := [42, 180, 0, 17, 60, 27, 154, 0, 13, 42, 42, 184, 0, 20, 90, 181, 0, 17, 60, 27, 172]
abbrev dktJ37_hashCode_0 : List UInt8 := dkwJ37_hashCode_0 ++ []
theorem dksJ37_hashCode_0 : cJ37_hashCode.data.toList.drop 0 = dktJ37_hashCode_0 := by decide +kernel
theorem dJ37_hashCode_0 : decode cJ37_hashCode 0 = .ok (.aload_n 0, 1) := dk_42 (dk_at dksJ37_hashCode_0 0 rfl rfl)
theorem dJ37_hashCode_1 : decode cJ37_hashCode 1 = .ok (.getfield 17, 3) := dk_180 0 17 (dk_at dksJ37_hashCode_0 1 rfl rfl)
theorem dJ37_hashCode_4 : decode cJ37_hashCode 4 = .ok (.istore_n 1, 1) := dk_60 (dk_at dksJ37_hashCode_0 4 rfl rfl)
theorem dJ37_hashCode_5 : decode cJ37_hashCode 5 = .ok (.iload_n 1, 1) := dk_27 (dk_at dksJ37_hashCode_0 5 rfl rfl)
theorem dJ37_hashCode_6 : decode cJ37_hashCode 6 = .ok (.ifCond .ne 13, 3) := dk_154 0 13 (dk_at dksJ37_hashCode_0 6 rfl rfl)
theorem dJ37_hashCode_9 : decode cJ37_hashCode 9 = .ok (.aload_n 0, 1) := dk_42 (dk_at dksJ37_hashCode_0 9 rfl rfl)
theorem dJ37_hashCode_10 : decode cJ37_hashCode 10 = .ok (.aload_n 0, 1) := dk_42 (dk_at dksJ37_hashCode_0 10 rfl rfl)
theorem dJ37_hashCode_11 : decode cJ37_hashCode 11 = .ok (.invokestatic 20, 3) := dk_184 0 20 (dk_at dksJ37_hashCode_0 11 rfl rfl)
theorem dJ37_hashCode_14 : decode cJ37_hashCode 14 = .ok (.dup_x1, 1) := dk_90 (dk_at dksJ37_hashCode_0 14 rfl rfl)
theorem dJ37_hashCode_15 : decode cJ37_hashCode 15 = .ok (.putfield 17, 3) := dk_181 0 17 (dk_at dksJ37_hashCode_0 15 rfl rfl)
theorem dJ37_hashCode_18 : decode cJ37_hashCode 18 = .ok (.istore_n 1, 1) := dk_60 (dk_at dksJ37_hashCode_0 18 rfl rfl)
theorem dJ37_hashCode_19 : decode cJ37_hashCode 19 = .ok (.iload_n 1, 1) := dk_27 (dk_at dksJ37_hashCode_0 19 rfl rfl)
theorem dJ37_hashCode_20 : decode cJ37_hashCode 20 = .ok (.ireturn, 1) := dk_172 (dk_at dksJ37_hashCode_0 20 rfl rfl)
abbrev iJ37_hashCode : xM := (yJ37_hashCode, cJ37_hashCode, 2, (some .int), [])
theorem mJ37_hashCode : xOkM iJ37_hashCode := ⟨by decide +kernel, by decide, q1379, q177⟩
abbrev cJ37_compareTo : ByteArray := prog_24_method_15_code
def yJ37_compareTo : MethodName := ⟨RJ37, "compareTo", "(Ljava/lang/Object;)I"⟩
def dkwJ37_compareTo_0 : List UInt8 := [42, 43, 192, 0, 2, 182, 0, 101, 172]
abbrev dktJ37_compareTo_0 : List UInt8 := dkwJ37_compareTo_0 ++ []
theorem dksJ37_compareTo_0 : cJ37_compareTo.data.toList.drop 0 = dktJ37_compareTo_0 := by decide +kernel
theorem dJ37_compareTo_0 : decode cJ37_compareTo 0 = .ok (.aload_n 0, 1) := dk_42 (dk_at dksJ37_compareTo_0 0 rfl rfl)
theorem dJ37_compareTo_1 : decode cJ37_compareTo 1 = .ok (.aload_n 1, 1) := dk_43 (dk_at dksJ37_compareTo_0 1 rfl rfl)
theorem dJ37_compareTo_2 : decode cJ37_compareTo 2 = .ok (.checkcast 2, 3) := dk_192 0 2 (dk_at dksJ37_compareTo_0 2 rfl rfl)
theorem dJ37_compareTo_5 : decode cJ37_compareTo 5 = .ok (.invokevirtual 101, 3) := dk_182 0 101 (dk_at dksJ37_compareTo_0 5 rfl rfl)
theorem dJ37_compareTo_8 : decode cJ37_compareTo 8 = .ok (.ireturn, 1) := dk_172 (dk_at dksJ37_compareTo_0 8 rfl rfl)
abbrev iJ37_compareTo : xM := (yJ37_compareTo, cJ37_compareTo, 2, (some .int), [])
theorem mJ37_compareTo : xOkM iJ37_compareTo := ⟨by decide +kernel, by decide, q1566, q177⟩
abbrev cJ37_compareTo_2 : ByteArray := prog_24_method_8_code
def yJ37_compareTo_2 : MethodName := ⟨RJ37, "compareTo", "(Ljava/lang/Enum;)I"⟩
def dkwJ37_compareTo_2_1 : List UInt8 := [165, 0, 11, 187, 0, 36, 89, 183, 0, 38, 191, 45, 180, 0, 7, 44, 180, 0, 7, 100, 172]
abbrev dktJ37_compareTo_2_1 : List UInt8 := dkwJ37_compareTo_2_1 ++ []
def dkwJ37_compareTo_2_0 : List UInt8 := [43, 77, 42, 78, 45, 182, 0, 29, 44, 182, 0, 29, 165, 0, 22, 45, 182, 0, 33, 44, 182, 0, 33]
abbrev dktJ37_compareTo_2_0 : List UInt8 := dkwJ37_compareTo_2_0 ++ dktJ37_compareTo_2_1
theorem dksJ37_compareTo_2_0 : cJ37_compareTo_2.data.toList.drop 0 = dktJ37_compareTo_2_0 := by decide +kernel
theorem dksJ37_compareTo_2_1 : cJ37_compareTo_2.data.toList.drop 23 = dktJ37_compareTo_2_1 := dk_seg dksJ37_compareTo_2_0 23 rfl rfl
theorem dJ37_compareTo_2_0 : decode cJ37_compareTo_2 0 = .ok (.aload_n 1, 1) := dk_43 (dk_at dksJ37_compareTo_2_0 0 rfl rfl)
theorem dJ37_compareTo_2_1 : decode cJ37_compareTo_2 1 = .ok (.astore_n 2, 1) := dk_77 (dk_at dksJ37_compareTo_2_0 1 rfl rfl)
theorem dJ37_compareTo_2_2 : decode cJ37_compareTo_2 2 = .ok (.aload_n 0, 1) := dk_42 (dk_at dksJ37_compareTo_2_0 2 rfl rfl)
theorem dJ37_compareTo_2_3 : decode cJ37_compareTo_2 3 = .ok (.astore_n 3, 1) := dk_78 (dk_at dksJ37_compareTo_2_0 3 rfl rfl)
theorem dJ37_compareTo_2_4 : decode cJ37_compareTo_2 4 = .ok (.aload_n 3, 1) := dk_45 (dk_at dksJ37_compareTo_2_0 4 rfl rfl)
theorem dJ37_compareTo_2_5 : decode cJ37_compareTo_2 5 = .ok (.invokevirtual 29, 3) := dk_182 0 29 (dk_at dksJ37_compareTo_2_0 5 rfl rfl)
theorem dJ37_compareTo_2_8 : decode cJ37_compareTo_2 8 = .ok (.aload_n 2, 1) := dk_44 (dk_at dksJ37_compareTo_2_0 8 rfl rfl)
theorem dJ37_compareTo_2_9 : decode cJ37_compareTo_2 9 = .ok (.invokevirtual 29, 3) := dk_182 0 29 (dk_at dksJ37_compareTo_2_0 9 rfl rfl)
theorem dJ37_compareTo_2_12 : decode cJ37_compareTo_2 12 = .ok (.if_acmp .eq 22, 3) := dk_165 0 22 (dk_at dksJ37_compareTo_2_0 12 rfl rfl)
theorem dJ37_compareTo_2_15 : decode cJ37_compareTo_2 15 = .ok (.aload_n 3, 1) := dk_45 (dk_at dksJ37_compareTo_2_0 15 rfl rfl)
theorem dJ37_compareTo_2_16 : decode cJ37_compareTo_2 16 = .ok (.invokevirtual 33, 3) := dk_182 0 33 (dk_at dksJ37_compareTo_2_0 16 rfl rfl)
theorem dJ37_compareTo_2_19 : decode cJ37_compareTo_2 19 = .ok (.aload_n 2, 1) := dk_44 (dk_at dksJ37_compareTo_2_0 19 rfl rfl)
theorem dJ37_compareTo_2_20 : decode cJ37_compareTo_2 20 = .ok (.invokevirtual 33, 3) := dk_182 0 33 (dk_at dksJ37_compareTo_2_0 20 rfl rfl)
theorem dJ37_compareTo_2_23 : decode cJ37_compareTo_2 23 = .ok (.if_acmp .eq 11, 3) := dk_165 0 11 (dk_at dksJ37_compareTo_2_1 0 rfl rfl)
theorem dJ37_compareTo_2_26 : decode cJ37_compareTo_2 26 = .ok (.new 36, 3) := dk_187 0 36 (dk_at dksJ37_compareTo_2_1 3 rfl rfl)
theorem dJ37_compareTo_2_29 : decode cJ37_compareTo_2 29 = .ok (.dup, 1) := dk_89 (dk_at dksJ37_compareTo_2_1 6 rfl rfl)
theorem dJ37_compareTo_2_30 : decode cJ37_compareTo_2 30 = .ok (.invokespecial 38, 3) := dk_183 0 38 (dk_at dksJ37_compareTo_2_1 7 rfl rfl)
theorem dJ37_compareTo_2_33 : decode cJ37_compareTo_2 33 = .ok (.athrow, 1) := dk_191 (dk_at dksJ37_compareTo_2_1 10 rfl rfl)
theorem dJ37_compareTo_2_34 : decode cJ37_compareTo_2 34 = .ok (.aload_n 3, 1) := dk_45 (dk_at dksJ37_compareTo_2_1 11 rfl rfl)
theorem dJ37_compareTo_2_35 : decode cJ37_compareTo_2 35 = .ok (.getfield 7, 3) := dk_180 0 7 (dk_at dksJ37_compareTo_2_1 12 rfl rfl)
theorem dJ37_compareTo_2_38 : decode cJ37_compareTo_2 38 = .ok (.aload_n 2, 1) := dk_44 (dk_at dksJ37_compareTo_2_1 15 rfl rfl)
theorem dJ37_compareTo_2_39 : decode cJ37_compareTo_2 39 = .ok (.getfield 7, 3) := dk_180 0 7 (dk_at dksJ37_compareTo_2_1 16 rfl rfl)
theorem dJ37_compareTo_2_42 : decode cJ37_compareTo_2 42 = .ok (.isub, 1) := dk_100 (dk_at dksJ37_compareTo_2_1 19 rfl rfl)
theorem dJ37_compareTo_2_43 : decode cJ37_compareTo_2 43 = .ok (.ireturn, 1) := dk_172 (dk_at dksJ37_compareTo_2_1 20 rfl rfl)
abbrev iJ37_compareTo_2 : xM := (yJ37_compareTo_2, cJ37_compareTo_2, 4, (some .int), [])
theorem mJ37_compareTo_2 : xOkM iJ37_compareTo_2 := ⟨by decide +kernel, by decide, q1572, q177⟩
abbrev cJ37_getDeclaringClass : ByteArray := prog_24_method_9_code
def yJ37_getDeclaringClass : MethodName := ⟨RJ37, "getDeclaringClass", "()Ljava/lang/Class;"⟩
def dkwJ37_getDeclaringClass_0 : List UInt8 := [42, 182, 0, 29, 76, 43, 182, 0, 39, 77, 44, 18, 2, 166, 0, 7, 43, 167, 0, 4, 44, 176]
abbrev dktJ37_getDeclaringClass_0 : List UInt8 := dkwJ37_getDeclaringClass_0 ++ []
theorem dksJ37_getDeclaringClass_0 : cJ37_getDeclaringClass.data.toList.drop 0 = dktJ37_getDeclaringClass_0 := by decide +kernel
theorem dJ37_getDeclaringClass_0 : decode cJ37_getDeclaringClass 0 = .ok (.aload_n 0, 1) := dk_42 (dk_at dksJ37_getDeclaringClass_0 0 rfl rfl)
theorem dJ37_getDeclaringClass_1 : decode cJ37_getDeclaringClass 1 = .ok (.invokevirtual 29, 3) := dk_182 0 29 (dk_at dksJ37_getDeclaringClass_0 1 rfl rfl)
theorem dJ37_getDeclaringClass_4 : decode cJ37_getDeclaringClass 4 = .ok (.astore_n 1, 1) := dk_76 (dk_at dksJ37_getDeclaringClass_0 4 rfl rfl)
theorem dJ37_getDeclaringClass_5 : decode cJ37_getDeclaringClass 5 = .ok (.aload_n 1, 1) := dk_43 (dk_at dksJ37_getDeclaringClass_0 5 rfl rfl)
theorem dJ37_getDeclaringClass_6 : decode cJ37_getDeclaringClass 6 = .ok (.invokevirtual 39, 3) := dk_182 0 39 (dk_at dksJ37_getDeclaringClass_0 6 rfl rfl)
theorem dJ37_getDeclaringClass_9 : decode cJ37_getDeclaringClass 9 = .ok (.astore_n 2, 1) := dk_77 (dk_at dksJ37_getDeclaringClass_0 9 rfl rfl)
theorem dJ37_getDeclaringClass_10 : decode cJ37_getDeclaringClass 10 = .ok (.aload_n 2, 1) := dk_44 (dk_at dksJ37_getDeclaringClass_0 10 rfl rfl)
theorem dJ37_getDeclaringClass_11 : decode cJ37_getDeclaringClass 11 = .ok (.ldc 2, 2) := dk_18 2 (dk_at dksJ37_getDeclaringClass_0 11 rfl rfl)
theorem dJ37_getDeclaringClass_13 : decode cJ37_getDeclaringClass 13 = .ok (.if_acmp .ne 7, 3) := dk_166 0 7 (dk_at dksJ37_getDeclaringClass_0 13 rfl rfl)
theorem dJ37_getDeclaringClass_16 : decode cJ37_getDeclaringClass 16 = .ok (.aload_n 1, 1) := dk_43 (dk_at dksJ37_getDeclaringClass_0 16 rfl rfl)
theorem dJ37_getDeclaringClass_17 : decode cJ37_getDeclaringClass 17 = .ok (.goto 4, 3) := dk_167 0 4 (dk_at dksJ37_getDeclaringClass_0 17 rfl rfl)
theorem dJ37_getDeclaringClass_20 : decode cJ37_getDeclaringClass 20 = .ok (.aload_n 2, 1) := dk_44 (dk_at dksJ37_getDeclaringClass_0 20 rfl rfl)
theorem dJ37_getDeclaringClass_21 : decode cJ37_getDeclaringClass 21 = .ok (.areturn, 1) := dk_176 (dk_at dksJ37_getDeclaringClass_0 21 rfl rfl)
abbrev iJ37_getDeclaringClass : xM := (yJ37_getDeclaringClass, cJ37_getDeclaringClass, 3, (some (.object "java/lang/Class")), [])
theorem mJ37_getDeclaringClass : xOkM iJ37_getDeclaringClass := ⟨by decide +kernel, by decide, q1578, q177⟩
abbrev cJ37_equals : ByteArray := prog_24_method_5_code
def yJ37_equals : MethodName := ⟨RJ37, "equals", "(Ljava/lang/Object;)Z"⟩
def dkwJ37_equals_0 : List UInt8 := [42, 43, 166, 0, 7, 4, 167, 0, 4, 3, 172]
abbrev dktJ37_equals_0 : List UInt8 := dkwJ37_equals_0 ++ []
theorem dksJ37_equals_0 : cJ37_equals.data.toList.drop 0 = dktJ37_equals_0 := by decide +kernel
theorem dJ37_equals_0 : decode cJ37_equals 0 = .ok (.aload_n 0, 1) := dk_42 (dk_at dksJ37_equals_0 0 rfl rfl)
theorem dJ37_equals_1 : decode cJ37_equals 1 = .ok (.aload_n 1, 1) := dk_43 (dk_at dksJ37_equals_0 1 rfl rfl)
theorem dJ37_equals_2 : decode cJ37_equals 2 = .ok (.if_acmp .ne 7, 3) := dk_166 0 7 (dk_at dksJ37_equals_0 2 rfl rfl)
theorem dJ37_equals_5 : decode cJ37_equals 5 = .ok (.iconst 1, 1) := dk_4 (dk_at dksJ37_equals_0 5 rfl rfl)
theorem dJ37_equals_6 : decode cJ37_equals 6 = .ok (.goto 4, 3) := dk_167 0 4 (dk_at dksJ37_equals_0 6 rfl rfl)
theorem dJ37_equals_9 : decode cJ37_equals 9 = .ok (.iconst 0, 1) := dk_3 (dk_at dksJ37_equals_0 9 rfl rfl)
theorem dJ37_equals_10 : decode cJ37_equals 10 = .ok (.ireturn, 1) := dk_172 (dk_at dksJ37_equals_0 10 rfl rfl)
abbrev iJ37_equals : xM := (yJ37_equals, cJ37_equals, 2, (some .boolean), [])
theorem mJ37_equals : xOkM iJ37_equals := ⟨by decide +kernel, by decide, q1813, q177⟩

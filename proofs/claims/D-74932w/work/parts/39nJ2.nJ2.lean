set_option maxRecDepth 100000
/-! java/util/ArrayList -/
abbrev cJ2_init : ByteArray := prog_43_method_1_code
def yJ2_init : MethodName := ⟨RJ2, "<init>", "(I)V"⟩
def dkwJ2_init_2 : List UInt8 := [182, 0, 25, 27, 182, 0, 29, 182, 0, 32, 183, 0, 36, 191, 177]
abbrev dktJ2_init_2 : List UInt8 := dkwJ2_init_2 ++ []
def dkwJ2_init_1 : List UInt8 := [178, 0, 15, 181, 0, 9, 167, 0, 30, 187, 0, 18, 89, 187, 0, 20, 89, 183, 0, 22, 18, 23]
abbrev dktJ2_init_1 : List UInt8 := dkwJ2_init_1 ++ dktJ2_init_2
def dkwJ2_init_0 : List UInt8 := [42, 183, 0, 1, 27, 158, 0, 14, 42, 27, 189, 0, 7, 181, 0, 9, 167, 0, 44, 27, 154, 0, 13, 42]
abbrev dktJ2_init_0 : List UInt8 := dkwJ2_init_0 ++ dktJ2_init_1
theorem dksJ2_init_0 : cJ2_init.data.toList.drop 0 = dktJ2_init_0 := by decide +kernel
theorem dksJ2_init_1 : cJ2_init.data.toList.drop 24 = dktJ2_init_1 := dk_seg dksJ2_init_0 24 rfl rfl
theorem dksJ2_init_2 : cJ2_init.data.toList.drop 46 = dktJ2_init_2 := dk_seg dksJ2_init_1 22 rfl rfl
theorem dJ2_init_0 : decode cJ2_init 0 = .ok (.aload_n 0, 1) := dk_42 (dk_at dksJ2_init_0 0 rfl rfl)
theorem dJ2_init_1 : decode cJ2_init 1 = .ok (.invokespecial 1, 3) := dk_183 0 1 (dk_at dksJ2_init_0 1 rfl rfl)
theorem dJ2_init_4 : decode cJ2_init 4 = .ok (.iload_n 1, 1) := dk_27 (dk_at dksJ2_init_0 4 rfl rfl)
theorem dJ2_init_5 : decode cJ2_init 5 = .ok (.ifCond .le 14, 3) := dk_158 0 14 (dk_at dksJ2_init_0 5 rfl rfl)
theorem dJ2_init_8 : decode cJ2_init 8 = .ok (.aload_n 0, 1) := dk_42 (dk_at dksJ2_init_0 8 rfl rfl)
theorem dJ2_init_9 : decode cJ2_init 9 = .ok (.iload_n 1, 1) := dk_27 (dk_at dksJ2_init_0 9 rfl rfl)
theorem dJ2_init_10 : decode cJ2_init 10 = .ok (.anewarray 7, 3) := dk_189 0 7 (dk_at dksJ2_init_0 10 rfl rfl)
theorem dJ2_init_13 : decode cJ2_init 13 = .ok (.putfield 9, 3) := dk_181 0 9 (dk_at dksJ2_init_0 13 rfl rfl)
theorem dJ2_init_16 : decode cJ2_init 16 = .ok (.goto 44, 3) := dk_167 0 44 (dk_at dksJ2_init_0 16 rfl rfl)
theorem dJ2_init_19 : decode cJ2_init 19 = .ok (.iload_n 1, 1) := dk_27 (dk_at dksJ2_init_0 19 rfl rfl)
theorem dJ2_init_20 : decode cJ2_init 20 = .ok (.ifCond .ne 13, 3) := dk_154 0 13 (dk_at dksJ2_init_0 20 rfl rfl)
theorem dJ2_init_23 : decode cJ2_init 23 = .ok (.aload_n 0, 1) := dk_42 (dk_at dksJ2_init_0 23 rfl rfl)
theorem dJ2_init_24 : decode cJ2_init 24 = .ok (.getstatic 15, 3) := dk_178 0 15 (dk_at dksJ2_init_1 0 rfl rfl)
theorem dJ2_init_27 : decode cJ2_init 27 = .ok (.putfield 9, 3) := dk_181 0 9 (dk_at dksJ2_init_1 3 rfl rfl)
theorem dJ2_init_30 : decode cJ2_init 30 = .ok (.goto 30, 3) := dk_167 0 30 (dk_at dksJ2_init_1 6 rfl rfl)
theorem dJ2_init_33 : decode cJ2_init 33 = .ok (.new 18, 3) := dk_187 0 18 (dk_at dksJ2_init_1 9 rfl rfl)
theorem dJ2_init_36 : decode cJ2_init 36 = .ok (.dup, 1) := dk_89 (dk_at dksJ2_init_1 12 rfl rfl)
theorem dJ2_init_37 : decode cJ2_init 37 = .ok (.new 20, 3) := dk_187 0 20 (dk_at dksJ2_init_1 13 rfl rfl)
theorem dJ2_init_40 : decode cJ2_init 40 = .ok (.dup, 1) := dk_89 (dk_at dksJ2_init_1 16 rfl rfl)
theorem dJ2_init_41 : decode cJ2_init 41 = .ok (.invokespecial 22, 3) := dk_183 0 22 (dk_at dksJ2_init_1 17 rfl rfl)
theorem dJ2_init_44 : decode cJ2_init 44 = .ok (.ldc 23, 2) := dk_18 23 (dk_at dksJ2_init_1 20 rfl rfl)
theorem dJ2_init_46 : decode cJ2_init 46 = .ok (.invokevirtual 25, 3) := dk_182 0 25 (dk_at dksJ2_init_2 0 rfl rfl)
theorem dJ2_init_49 : decode cJ2_init 49 = .ok (.iload_n 1, 1) := dk_27 (dk_at dksJ2_init_2 3 rfl rfl)
theorem dJ2_init_50 : decode cJ2_init 50 = .ok (.invokevirtual 29, 3) := dk_182 0 29 (dk_at dksJ2_init_2 4 rfl rfl)
theorem dJ2_init_53 : decode cJ2_init 53 = .ok (.invokevirtual 32, 3) := dk_182 0 32 (dk_at dksJ2_init_2 7 rfl rfl)
theorem dJ2_init_56 : decode cJ2_init 56 = .ok (.invokespecial 36, 3) := dk_183 0 36 (dk_at dksJ2_init_2 10 rfl rfl)
theorem dJ2_init_59 : decode cJ2_init 59 = .ok (.athrow, 1) := dk_191 (dk_at dksJ2_init_2 13 rfl rfl)
theorem dJ2_init_60 : decode cJ2_init 60 = .ok (.return_, 1) := dk_177 (dk_at dksJ2_init_2 14 rfl rfl)
abbrev cJ2_size : ByteArray := prog_43_method_8_code
def yJ2_size : MethodName := ⟨RJ2, "size", "()I"⟩
theorem dJ2_size_0 : decode cJ2_size 0 = .ok (.aload_n 0, 1) := by decide +kernel
theorem dJ2_size_1 : decode cJ2_size 1 = .ok (.getfield 48, 3) := by decide +kernel
theorem dJ2_size_4 : decode cJ2_size 4 = .ok (.ireturn, 1) := by decide +kernel
abbrev cJ2_add : ByteArray := prog_43_method_25_code
def yJ2_add : MethodName := ⟨RJ2, "add", "(Ljava/lang/Object;)Z"⟩
def dkwJ2_add_1 : List UInt8 := [172]
abbrev dktJ2_add_1 : List UInt8 := dkwJ2_add_1 ++ []
def dkwJ2_add_0 : List UInt8 := [42, 89, 180, 0, 63, 4, 96, 181, 0, 63, 42, 43, 42, 180, 0, 9, 42, 180, 0, 48, 182, 0, 131, 4]
abbrev dktJ2_add_0 : List UInt8 := dkwJ2_add_0 ++ dktJ2_add_1
theorem dksJ2_add_0 : cJ2_add.data.toList.drop 0 = dktJ2_add_0 := by decide +kernel
theorem dksJ2_add_1 : cJ2_add.data.toList.drop 24 = dktJ2_add_1 := dk_seg dksJ2_add_0 24 rfl rfl
theorem dJ2_add_0 : decode cJ2_add 0 = .ok (.aload_n 0, 1) := dk_42 (dk_at dksJ2_add_0 0 rfl rfl)
theorem dJ2_add_1 : decode cJ2_add 1 = .ok (.dup, 1) := dk_89 (dk_at dksJ2_add_0 1 rfl rfl)
theorem dJ2_add_2 : decode cJ2_add 2 = .ok (.getfield 63, 3) := dk_180 0 63 (dk_at dksJ2_add_0 2 rfl rfl)
theorem dJ2_add_5 : decode cJ2_add 5 = .ok (.iconst 1, 1) := dk_4 (dk_at dksJ2_add_0 5 rfl rfl)
theorem dJ2_add_6 : decode cJ2_add 6 = .ok (.iadd, 1) := dk_96 (dk_at dksJ2_add_0 6 rfl rfl)
theorem dJ2_add_7 : decode cJ2_add 7 = .ok (.putfield 63, 3) := dk_181 0 63 (dk_at dksJ2_add_0 7 rfl rfl)
theorem dJ2_add_10 : decode cJ2_add 10 = .ok (.aload_n 0, 1) := dk_42 (dk_at dksJ2_add_0 10 rfl rfl)
theorem dJ2_add_11 : decode cJ2_add 11 = .ok (.aload_n 1, 1) := dk_43 (dk_at dksJ2_add_0 11 rfl rfl)
theorem dJ2_add_12 : decode cJ2_add 12 = .ok (.aload_n 0, 1) := dk_42 (dk_at dksJ2_add_0 12 rfl rfl)
theorem dJ2_add_13 : decode cJ2_add 13 = .ok (.getfield 9, 3) := dk_180 0 9 (dk_at dksJ2_add_0 13 rfl rfl)
theorem dJ2_add_16 : decode cJ2_add 16 = .ok (.aload_n 0, 1) := dk_42 (dk_at dksJ2_add_0 16 rfl rfl)
theorem dJ2_add_17 : decode cJ2_add 17 = .ok (.getfield 48, 3) := dk_180 0 48 (dk_at dksJ2_add_0 17 rfl rfl)
theorem dJ2_add_20 : decode cJ2_add 20 = .ok (.invokevirtual 131, 3) := dk_182 0 131 (dk_at dksJ2_add_0 20 rfl rfl)
theorem dJ2_add_23 : decode cJ2_add 23 = .ok (.iconst 1, 1) := dk_4 (dk_at dksJ2_add_0 23 rfl rfl)
theorem dJ2_add_24 : decode cJ2_add 24 = .ok (.ireturn, 1) := dk_172 (dk_at dksJ2_add_1 0 rfl rfl)
abbrev cJ2_add_2 : ByteArray := prog_43_method_24_code
def yJ2_add_2 : MethodName := ⟨RJ2, "add", "(Ljava/lang/Object;[Ljava/lang/Object;I)V"⟩
def dkwJ2_add_2_0 : List UInt8 := [29, 44, 190, 160, 0, 8, 42, 182, 0, 129, 77, 44, 29, 43, 83, 42, 29, 4, 96, 181, 0, 48, 177]
abbrev dktJ2_add_2_0 : List UInt8 := dkwJ2_add_2_0 ++ []
theorem dksJ2_add_2_0 : cJ2_add_2.data.toList.drop 0 = dktJ2_add_2_0 := by decide +kernel
theorem dJ2_add_2_0 : decode cJ2_add_2 0 = .ok (.iload_n 3, 1) := dk_29 (dk_at dksJ2_add_2_0 0 rfl rfl)
theorem dJ2_add_2_1 : decode cJ2_add_2 1 = .ok (.aload_n 2, 1) := dk_44 (dk_at dksJ2_add_2_0 1 rfl rfl)
theorem dJ2_add_2_2 : decode cJ2_add_2 2 = .ok (.arraylength, 1) := dk_190 (dk_at dksJ2_add_2_0 2 rfl rfl)
theorem dJ2_add_2_3 : decode cJ2_add_2 3 = .ok (.if_icmp .ne 8, 3) := dk_160 0 8 (dk_at dksJ2_add_2_0 3 rfl rfl)
theorem dJ2_add_2_6 : decode cJ2_add_2 6 = .ok (.aload_n 0, 1) := dk_42 (dk_at dksJ2_add_2_0 6 rfl rfl)
theorem dJ2_add_2_7 : decode cJ2_add_2 7 = .ok (.invokevirtual 129, 3) := dk_182 0 129 (dk_at dksJ2_add_2_0 7 rfl rfl)
theorem dJ2_add_2_10 : decode cJ2_add_2 10 = .ok (.astore_n 2, 1) := dk_77 (dk_at dksJ2_add_2_0 10 rfl rfl)
theorem dJ2_add_2_11 : decode cJ2_add_2 11 = .ok (.aload_n 2, 1) := dk_44 (dk_at dksJ2_add_2_0 11 rfl rfl)
theorem dJ2_add_2_12 : decode cJ2_add_2 12 = .ok (.iload_n 3, 1) := dk_29 (dk_at dksJ2_add_2_0 12 rfl rfl)
theorem dJ2_add_2_13 : decode cJ2_add_2 13 = .ok (.aload_n 1, 1) := dk_43 (dk_at dksJ2_add_2_0 13 rfl rfl)
theorem dJ2_add_2_14 : decode cJ2_add_2 14 = .ok (.aastore, 1) := dk_83 (dk_at dksJ2_add_2_0 14 rfl rfl)
theorem dJ2_add_2_15 : decode cJ2_add_2 15 = .ok (.aload_n 0, 1) := dk_42 (dk_at dksJ2_add_2_0 15 rfl rfl)
theorem dJ2_add_2_16 : decode cJ2_add_2 16 = .ok (.iload_n 3, 1) := dk_29 (dk_at dksJ2_add_2_0 16 rfl rfl)
theorem dJ2_add_2_17 : decode cJ2_add_2 17 = .ok (.iconst 1, 1) := dk_4 (dk_at dksJ2_add_2_0 17 rfl rfl)
theorem dJ2_add_2_18 : decode cJ2_add_2 18 = .ok (.iadd, 1) := dk_96 (dk_at dksJ2_add_2_0 18 rfl rfl)
theorem dJ2_add_2_19 : decode cJ2_add_2 19 = .ok (.putfield 48, 3) := dk_181 0 48 (dk_at dksJ2_add_2_0 19 rfl rfl)
theorem dJ2_add_2_22 : decode cJ2_add_2 22 = .ok (.return_, 1) := dk_177 (dk_at dksJ2_add_2_0 22 rfl rfl)
abbrev cJ2_grow : ByteArray := prog_43_method_7_code
def yJ2_grow : MethodName := ⟨RJ2, "grow", "()[Ljava/lang/Object;"⟩
def dkwJ2_grow_0 : List UInt8 := [42, 42, 180, 0, 48, 4, 96, 182, 0, 69, 176]
abbrev dktJ2_grow_0 : List UInt8 := dkwJ2_grow_0 ++ []
theorem dksJ2_grow_0 : cJ2_grow.data.toList.drop 0 = dktJ2_grow_0 := by decide +kernel
theorem dJ2_grow_0 : decode cJ2_grow 0 = .ok (.aload_n 0, 1) := dk_42 (dk_at dksJ2_grow_0 0 rfl rfl)
theorem dJ2_grow_1 : decode cJ2_grow 1 = .ok (.aload_n 0, 1) := dk_42 (dk_at dksJ2_grow_0 1 rfl rfl)
theorem dJ2_grow_2 : decode cJ2_grow 2 = .ok (.getfield 48, 3) := dk_180 0 48 (dk_at dksJ2_grow_0 2 rfl rfl)
theorem dJ2_grow_5 : decode cJ2_grow 5 = .ok (.iconst 1, 1) := dk_4 (dk_at dksJ2_grow_0 5 rfl rfl)
theorem dJ2_grow_6 : decode cJ2_grow 6 = .ok (.iadd, 1) := dk_96 (dk_at dksJ2_grow_0 6 rfl rfl)
theorem dJ2_grow_7 : decode cJ2_grow 7 = .ok (.invokevirtual 69, 3) := dk_182 0 69 (dk_at dksJ2_grow_0 7 rfl rfl)
theorem dJ2_grow_10 : decode cJ2_grow 10 = .ok (.areturn, 1) := dk_176 (dk_at dksJ2_grow_0 10 rfl rfl)
abbrev cJ2_grow_2 : ByteArray := prog_43_method_6_code
def yJ2_grow_2 : MethodName := ⟨RJ2, "grow", "(I)[Ljava/lang/Object;"⟩
def dkwJ2_grow_2_2 : List UInt8 := [27, 184, 0, 79, 189, 0, 7, 90, 181, 0, 9, 176]
abbrev dktJ2_grow_2_2 : List UInt8 := dkwJ2_grow_2_2 ++ []
def dkwJ2_grow_2_1 : List UInt8 := [28, 4, 122, 184, 0, 73, 62, 42, 42, 180, 0, 9, 29, 184, 0, 66, 90, 181, 0, 9, 176, 42, 16, 10]
abbrev dktJ2_grow_2_1 : List UInt8 := dkwJ2_grow_2_1 ++ dktJ2_grow_2_2
def dkwJ2_grow_2_0 : List UInt8 := [42, 180, 0, 9, 190, 61, 28, 157, 0, 13, 42, 180, 0, 9, 178, 0, 39, 165, 0, 28, 28, 27, 28, 100]
abbrev dktJ2_grow_2_0 : List UInt8 := dkwJ2_grow_2_0 ++ dktJ2_grow_2_1
theorem dksJ2_grow_2_0 : cJ2_grow_2.data.toList.drop 0 = dktJ2_grow_2_0 := by decide +kernel
theorem dksJ2_grow_2_1 : cJ2_grow_2.data.toList.drop 24 = dktJ2_grow_2_1 := dk_seg dksJ2_grow_2_0 24 rfl rfl
theorem dksJ2_grow_2_2 : cJ2_grow_2.data.toList.drop 48 = dktJ2_grow_2_2 := dk_seg dksJ2_grow_2_1 24 rfl rfl
theorem dJ2_grow_2_0 : decode cJ2_grow_2 0 = .ok (.aload_n 0, 1) := dk_42 (dk_at dksJ2_grow_2_0 0 rfl rfl)
theorem dJ2_grow_2_1 : decode cJ2_grow_2 1 = .ok (.getfield 9, 3) := dk_180 0 9 (dk_at dksJ2_grow_2_0 1 rfl rfl)
theorem dJ2_grow_2_4 : decode cJ2_grow_2 4 = .ok (.arraylength, 1) := dk_190 (dk_at dksJ2_grow_2_0 4 rfl rfl)
theorem dJ2_grow_2_5 : decode cJ2_grow_2 5 = .ok (.istore_n 2, 1) := dk_61 (dk_at dksJ2_grow_2_0 5 rfl rfl)
theorem dJ2_grow_2_6 : decode cJ2_grow_2 6 = .ok (.iload_n 2, 1) := dk_28 (dk_at dksJ2_grow_2_0 6 rfl rfl)
theorem dJ2_grow_2_7 : decode cJ2_grow_2 7 = .ok (.ifCond .gt 13, 3) := dk_157 0 13 (dk_at dksJ2_grow_2_0 7 rfl rfl)
theorem dJ2_grow_2_10 : decode cJ2_grow_2 10 = .ok (.aload_n 0, 1) := dk_42 (dk_at dksJ2_grow_2_0 10 rfl rfl)
theorem dJ2_grow_2_11 : decode cJ2_grow_2 11 = .ok (.getfield 9, 3) := dk_180 0 9 (dk_at dksJ2_grow_2_0 11 rfl rfl)
theorem dJ2_grow_2_14 : decode cJ2_grow_2 14 = .ok (.getstatic 39, 3) := dk_178 0 39 (dk_at dksJ2_grow_2_0 14 rfl rfl)
theorem dJ2_grow_2_17 : decode cJ2_grow_2 17 = .ok (.if_acmp .eq 28, 3) := dk_165 0 28 (dk_at dksJ2_grow_2_0 17 rfl rfl)
theorem dJ2_grow_2_20 : decode cJ2_grow_2 20 = .ok (.iload_n 2, 1) := dk_28 (dk_at dksJ2_grow_2_0 20 rfl rfl)
theorem dJ2_grow_2_21 : decode cJ2_grow_2 21 = .ok (.iload_n 1, 1) := dk_27 (dk_at dksJ2_grow_2_0 21 rfl rfl)
theorem dJ2_grow_2_22 : decode cJ2_grow_2 22 = .ok (.iload_n 2, 1) := dk_28 (dk_at dksJ2_grow_2_0 22 rfl rfl)
theorem dJ2_grow_2_23 : decode cJ2_grow_2 23 = .ok (.isub, 1) := dk_100 (dk_at dksJ2_grow_2_0 23 rfl rfl)
theorem dJ2_grow_2_24 : decode cJ2_grow_2 24 = .ok (.iload_n 2, 1) := dk_28 (dk_at dksJ2_grow_2_1 0 rfl rfl)
theorem dJ2_grow_2_25 : decode cJ2_grow_2 25 = .ok (.iconst 1, 1) := dk_4 (dk_at dksJ2_grow_2_1 1 rfl rfl)
theorem dJ2_grow_2_26 : decode cJ2_grow_2 26 = .ok (.ishr, 1) := dk_122 (dk_at dksJ2_grow_2_1 2 rfl rfl)
theorem dJ2_grow_2_27 : decode cJ2_grow_2 27 = .ok (.invokestatic 73, 3) := dk_184 0 73 (dk_at dksJ2_grow_2_1 3 rfl rfl)
theorem dJ2_grow_2_30 : decode cJ2_grow_2 30 = .ok (.istore_n 3, 1) := dk_62 (dk_at dksJ2_grow_2_1 6 rfl rfl)
theorem dJ2_grow_2_31 : decode cJ2_grow_2 31 = .ok (.aload_n 0, 1) := dk_42 (dk_at dksJ2_grow_2_1 7 rfl rfl)
theorem dJ2_grow_2_32 : decode cJ2_grow_2 32 = .ok (.aload_n 0, 1) := dk_42 (dk_at dksJ2_grow_2_1 8 rfl rfl)
theorem dJ2_grow_2_33 : decode cJ2_grow_2 33 = .ok (.getfield 9, 3) := dk_180 0 9 (dk_at dksJ2_grow_2_1 9 rfl rfl)
theorem dJ2_grow_2_36 : decode cJ2_grow_2 36 = .ok (.iload_n 3, 1) := dk_29 (dk_at dksJ2_grow_2_1 12 rfl rfl)
theorem dJ2_grow_2_37 : decode cJ2_grow_2 37 = .ok (.invokestatic 66, 3) := dk_184 0 66 (dk_at dksJ2_grow_2_1 13 rfl rfl)
theorem dJ2_grow_2_40 : decode cJ2_grow_2 40 = .ok (.dup_x1, 1) := dk_90 (dk_at dksJ2_grow_2_1 16 rfl rfl)
theorem dJ2_grow_2_41 : decode cJ2_grow_2 41 = .ok (.putfield 9, 3) := dk_181 0 9 (dk_at dksJ2_grow_2_1 17 rfl rfl)
theorem dJ2_grow_2_44 : decode cJ2_grow_2 44 = .ok (.areturn, 1) := dk_176 (dk_at dksJ2_grow_2_1 20 rfl rfl)
theorem dJ2_grow_2_45 : decode cJ2_grow_2 45 = .ok (.aload_n 0, 1) := dk_42 (dk_at dksJ2_grow_2_1 21 rfl rfl)
theorem dJ2_grow_2_46 : decode cJ2_grow_2 46 = .ok (.bipush 10, 2) := dk_16 10 (dk_at dksJ2_grow_2_1 22 rfl rfl)
theorem dJ2_grow_2_48 : decode cJ2_grow_2 48 = .ok (.iload_n 1, 1) := dk_27 (dk_at dksJ2_grow_2_2 0 rfl rfl)
theorem dJ2_grow_2_49 : decode cJ2_grow_2 49 = .ok (.invokestatic 79, 3) := dk_184 0 79 (dk_at dksJ2_grow_2_2 1 rfl rfl)
theorem dJ2_grow_2_52 : decode cJ2_grow_2 52 = .ok (.anewarray 7, 3) := dk_189 0 7 (dk_at dksJ2_grow_2_2 4 rfl rfl)
theorem dJ2_grow_2_55 : decode cJ2_grow_2 55 = .ok (.dup_x1, 1) := dk_90 (dk_at dksJ2_grow_2_2 7 rfl rfl)
theorem dJ2_grow_2_56 : decode cJ2_grow_2 56 = .ok (.putfield 9, 3) := dk_181 0 9 (dk_at dksJ2_grow_2_2 8 rfl rfl)
theorem dJ2_grow_2_59 : decode cJ2_grow_2 59 = .ok (.areturn, 1) := dk_176 (dk_at dksJ2_grow_2_2 11 rfl rfl)
abbrev cJ2_get : ByteArray := prog_43_method_20_code
def yJ2_get : MethodName := ⟨RJ2, "get", "(I)Ljava/lang/Object;"⟩
def dkwJ2_get_0 : List UInt8 := [27, 42, 180, 0, 48, 184, 0, 118, 87, 42, 27, 182, 0, 123, 176]
abbrev dktJ2_get_0 : List UInt8 := dkwJ2_get_0 ++ []
theorem dksJ2_get_0 : cJ2_get.data.toList.drop 0 = dktJ2_get_0 := by decide +kernel
theorem dJ2_get_0 : decode cJ2_get 0 = .ok (.iload_n 1, 1) := dk_27 (dk_at dksJ2_get_0 0 rfl rfl)
theorem dJ2_get_1 : decode cJ2_get 1 = .ok (.aload_n 0, 1) := dk_42 (dk_at dksJ2_get_0 1 rfl rfl)
theorem dJ2_get_2 : decode cJ2_get 2 = .ok (.getfield 48, 3) := dk_180 0 48 (dk_at dksJ2_get_0 2 rfl rfl)
theorem dJ2_get_5 : decode cJ2_get 5 = .ok (.invokestatic 118, 3) := dk_184 0 118 (dk_at dksJ2_get_0 5 rfl rfl)
theorem dJ2_get_8 : decode cJ2_get 8 = .ok (.pop, 1) := dk_87 (dk_at dksJ2_get_0 8 rfl rfl)
theorem dJ2_get_9 : decode cJ2_get 9 = .ok (.aload_n 0, 1) := dk_42 (dk_at dksJ2_get_0 9 rfl rfl)
theorem dJ2_get_10 : decode cJ2_get 10 = .ok (.iload_n 1, 1) := dk_27 (dk_at dksJ2_get_0 10 rfl rfl)
theorem dJ2_get_11 : decode cJ2_get 11 = .ok (.invokevirtual 123, 3) := dk_182 0 123 (dk_at dksJ2_get_0 11 rfl rfl)
theorem dJ2_get_14 : decode cJ2_get 14 = .ok (.areturn, 1) := dk_176 (dk_at dksJ2_get_0 14 rfl rfl)
abbrev cJ2_elementData : ByteArray := prog_43_method_18_code
def yJ2_elementData : MethodName := ⟨RJ2, "elementData", "(I)Ljava/lang/Object;"⟩
def dkwJ2_elementData_0 : List UInt8 := [42, 180, 0, 9, 27, 50, 176]
abbrev dktJ2_elementData_0 : List UInt8 := dkwJ2_elementData_0 ++ []
theorem dksJ2_elementData_0 : cJ2_elementData.data.toList.drop 0 = dktJ2_elementData_0 := by decide +kernel
theorem dJ2_elementData_0 : decode cJ2_elementData 0 = .ok (.aload_n 0, 1) := dk_42 (dk_at dksJ2_elementData_0 0 rfl rfl)
theorem dJ2_elementData_1 : decode cJ2_elementData 1 = .ok (.getfield 9, 3) := dk_180 0 9 (dk_at dksJ2_elementData_0 1 rfl rfl)
theorem dJ2_elementData_4 : decode cJ2_elementData 4 = .ok (.iload_n 1, 1) := dk_27 (dk_at dksJ2_elementData_0 4 rfl rfl)
theorem dJ2_elementData_5 : decode cJ2_elementData 5 = .ok (.aaload, 1) := dk_50 (dk_at dksJ2_elementData_0 5 rfl rfl)
theorem dJ2_elementData_6 : decode cJ2_elementData 6 = .ok (.areturn, 1) := dk_176 (dk_at dksJ2_elementData_0 6 rfl rfl)
abbrev cJ2_clear : ByteArray := prog_43_method_40_code
def yJ2_clear : MethodName := ⟨RJ2, "clear", "()V"⟩
def dkwJ2_clear_1 : List UInt8 := [181, 0, 48, 62, 29, 28, 162, 0, 13, 43, 29, 1, 83, 132, 3, 1, 167, 255, 244, 177]
abbrev dktJ2_clear_1 : List UInt8 := dkwJ2_clear_1 ++ []
def dkwJ2_clear_0 : List UInt8 := [42, 89, 180, 0, 63, 4, 96, 181, 0, 63, 42, 180, 0, 9, 76, 42, 180, 0, 48, 61, 42, 3, 90]
abbrev dktJ2_clear_0 : List UInt8 := dkwJ2_clear_0 ++ dktJ2_clear_1
theorem dksJ2_clear_0 : cJ2_clear.data.toList.drop 0 = dktJ2_clear_0 := by decide +kernel
theorem dksJ2_clear_1 : cJ2_clear.data.toList.drop 23 = dktJ2_clear_1 := dk_seg dksJ2_clear_0 23 rfl rfl
theorem dJ2_clear_0 : decode cJ2_clear 0 = .ok (.aload_n 0, 1) := dk_42 (dk_at dksJ2_clear_0 0 rfl rfl)
theorem dJ2_clear_1 : decode cJ2_clear 1 = .ok (.dup, 1) := dk_89 (dk_at dksJ2_clear_0 1 rfl rfl)
theorem dJ2_clear_2 : decode cJ2_clear 2 = .ok (.getfield 63, 3) := dk_180 0 63 (dk_at dksJ2_clear_0 2 rfl rfl)
theorem dJ2_clear_5 : decode cJ2_clear 5 = .ok (.iconst 1, 1) := dk_4 (dk_at dksJ2_clear_0 5 rfl rfl)
theorem dJ2_clear_6 : decode cJ2_clear 6 = .ok (.iadd, 1) := dk_96 (dk_at dksJ2_clear_0 6 rfl rfl)
theorem dJ2_clear_7 : decode cJ2_clear 7 = .ok (.putfield 63, 3) := dk_181 0 63 (dk_at dksJ2_clear_0 7 rfl rfl)
theorem dJ2_clear_10 : decode cJ2_clear 10 = .ok (.aload_n 0, 1) := dk_42 (dk_at dksJ2_clear_0 10 rfl rfl)
theorem dJ2_clear_11 : decode cJ2_clear 11 = .ok (.getfield 9, 3) := dk_180 0 9 (dk_at dksJ2_clear_0 11 rfl rfl)
theorem dJ2_clear_14 : decode cJ2_clear 14 = .ok (.astore_n 1, 1) := dk_76 (dk_at dksJ2_clear_0 14 rfl rfl)
theorem dJ2_clear_15 : decode cJ2_clear 15 = .ok (.aload_n 0, 1) := dk_42 (dk_at dksJ2_clear_0 15 rfl rfl)
theorem dJ2_clear_16 : decode cJ2_clear 16 = .ok (.getfield 48, 3) := dk_180 0 48 (dk_at dksJ2_clear_0 16 rfl rfl)
theorem dJ2_clear_19 : decode cJ2_clear 19 = .ok (.istore_n 2, 1) := dk_61 (dk_at dksJ2_clear_0 19 rfl rfl)
theorem dJ2_clear_20 : decode cJ2_clear 20 = .ok (.aload_n 0, 1) := dk_42 (dk_at dksJ2_clear_0 20 rfl rfl)
theorem dJ2_clear_21 : decode cJ2_clear 21 = .ok (.iconst 0, 1) := dk_3 (dk_at dksJ2_clear_0 21 rfl rfl)
theorem dJ2_clear_22 : decode cJ2_clear 22 = .ok (.dup_x1, 1) := dk_90 (dk_at dksJ2_clear_0 22 rfl rfl)
theorem dJ2_clear_23 : decode cJ2_clear 23 = .ok (.putfield 48, 3) := dk_181 0 48 (dk_at dksJ2_clear_1 0 rfl rfl)
theorem dJ2_clear_26 : decode cJ2_clear 26 = .ok (.istore_n 3, 1) := dk_62 (dk_at dksJ2_clear_1 3 rfl rfl)
theorem dJ2_clear_27 : decode cJ2_clear 27 = .ok (.iload_n 3, 1) := dk_29 (dk_at dksJ2_clear_1 4 rfl rfl)
theorem dJ2_clear_28 : decode cJ2_clear 28 = .ok (.iload_n 2, 1) := dk_28 (dk_at dksJ2_clear_1 5 rfl rfl)
theorem dJ2_clear_29 : decode cJ2_clear 29 = .ok (.if_icmp .ge 13, 3) := dk_162 0 13 (dk_at dksJ2_clear_1 6 rfl rfl)
theorem dJ2_clear_32 : decode cJ2_clear 32 = .ok (.aload_n 1, 1) := dk_43 (dk_at dksJ2_clear_1 9 rfl rfl)
theorem dJ2_clear_33 : decode cJ2_clear 33 = .ok (.iload_n 3, 1) := dk_29 (dk_at dksJ2_clear_1 10 rfl rfl)
theorem dJ2_clear_34 : decode cJ2_clear 34 = .ok (.aconst_null, 1) := dk_1 (dk_at dksJ2_clear_1 11 rfl rfl)
theorem dJ2_clear_35 : decode cJ2_clear 35 = .ok (.aastore, 1) := dk_83 (dk_at dksJ2_clear_1 12 rfl rfl)
theorem dJ2_clear_36 : decode cJ2_clear 36 = .ok (.iinc 3 1, 3) := dk_132 3 1 (dk_at dksJ2_clear_1 13 rfl rfl)
theorem dJ2_clear_39 : decode cJ2_clear 39 = .ok (.goto (-12), 3) := dk_167 255 244 (dk_at dksJ2_clear_1 16 rfl rfl)
theorem dJ2_clear_42 : decode cJ2_clear 42 = .ok (.return_, 1) := dk_177 (dk_at dksJ2_clear_1 19 rfl rfl)
abbrev cJ2_remove : ByteArray := prog_43_method_29_code
def yJ2_remove : MethodName := ⟨RJ2, "remove", "(I)Ljava/lang/Object;"⟩
def dkwJ2_remove_1 : List UInt8 := [45, 176]
abbrev dktJ2_remove_1 : List UInt8 := dkwJ2_remove_1 ++ []
def dkwJ2_remove_0 : List UInt8 := [27, 42, 180, 0, 48, 184, 0, 118, 87, 42, 180, 0, 9, 77, 44, 27, 50, 78, 42, 44, 27, 182, 0, 144]
abbrev dktJ2_remove_0 : List UInt8 := dkwJ2_remove_0 ++ dktJ2_remove_1
theorem dksJ2_remove_0 : cJ2_remove.data.toList.drop 0 = dktJ2_remove_0 := by decide +kernel
theorem dksJ2_remove_1 : cJ2_remove.data.toList.drop 24 = dktJ2_remove_1 := dk_seg dksJ2_remove_0 24 rfl rfl
theorem dJ2_remove_0 : decode cJ2_remove 0 = .ok (.iload_n 1, 1) := dk_27 (dk_at dksJ2_remove_0 0 rfl rfl)
theorem dJ2_remove_1 : decode cJ2_remove 1 = .ok (.aload_n 0, 1) := dk_42 (dk_at dksJ2_remove_0 1 rfl rfl)
theorem dJ2_remove_2 : decode cJ2_remove 2 = .ok (.getfield 48, 3) := dk_180 0 48 (dk_at dksJ2_remove_0 2 rfl rfl)
theorem dJ2_remove_5 : decode cJ2_remove 5 = .ok (.invokestatic 118, 3) := dk_184 0 118 (dk_at dksJ2_remove_0 5 rfl rfl)
theorem dJ2_remove_8 : decode cJ2_remove 8 = .ok (.pop, 1) := dk_87 (dk_at dksJ2_remove_0 8 rfl rfl)
theorem dJ2_remove_9 : decode cJ2_remove 9 = .ok (.aload_n 0, 1) := dk_42 (dk_at dksJ2_remove_0 9 rfl rfl)
theorem dJ2_remove_10 : decode cJ2_remove 10 = .ok (.getfield 9, 3) := dk_180 0 9 (dk_at dksJ2_remove_0 10 rfl rfl)
theorem dJ2_remove_13 : decode cJ2_remove 13 = .ok (.astore_n 2, 1) := dk_77 (dk_at dksJ2_remove_0 13 rfl rfl)
theorem dJ2_remove_14 : decode cJ2_remove 14 = .ok (.aload_n 2, 1) := dk_44 (dk_at dksJ2_remove_0 14 rfl rfl)
theorem dJ2_remove_15 : decode cJ2_remove 15 = .ok (.iload_n 1, 1) := dk_27 (dk_at dksJ2_remove_0 15 rfl rfl)
theorem dJ2_remove_16 : decode cJ2_remove 16 = .ok (.aaload, 1) := dk_50 (dk_at dksJ2_remove_0 16 rfl rfl)
theorem dJ2_remove_17 : decode cJ2_remove 17 = .ok (.astore_n 3, 1) := dk_78 (dk_at dksJ2_remove_0 17 rfl rfl)
theorem dJ2_remove_18 : decode cJ2_remove 18 = .ok (.aload_n 0, 1) := dk_42 (dk_at dksJ2_remove_0 18 rfl rfl)
theorem dJ2_remove_19 : decode cJ2_remove 19 = .ok (.aload_n 2, 1) := dk_44 (dk_at dksJ2_remove_0 19 rfl rfl)
theorem dJ2_remove_20 : decode cJ2_remove 20 = .ok (.iload_n 1, 1) := dk_27 (dk_at dksJ2_remove_0 20 rfl rfl)
theorem dJ2_remove_21 : decode cJ2_remove 21 = .ok (.invokevirtual 144, 3) := dk_182 0 144 (dk_at dksJ2_remove_0 21 rfl rfl)
theorem dJ2_remove_24 : decode cJ2_remove 24 = .ok (.aload_n 3, 1) := dk_45 (dk_at dksJ2_remove_1 0 rfl rfl)
theorem dJ2_remove_25 : decode cJ2_remove 25 = .ok (.areturn, 1) := dk_176 (dk_at dksJ2_remove_1 1 rfl rfl)
abbrev cJ2_fastRemove : ByteArray := prog_43_method_39_code
def yJ2_fastRemove : MethodName := ⟨RJ2, "fastRemove", "([Ljava/lang/Object;I)V"⟩
def dkwJ2_fastRemove_1 : List UInt8 := [4, 96, 43, 28, 29, 28, 100, 184, 0, 112, 43, 42, 29, 90, 181, 0, 48, 1, 83, 177]
abbrev dktJ2_fastRemove_1 : List UInt8 := dkwJ2_fastRemove_1 ++ []
def dkwJ2_fastRemove_0 : List UInt8 := [42, 89, 180, 0, 63, 4, 96, 181, 0, 63, 42, 180, 0, 48, 4, 100, 89, 62, 28, 164, 0, 15, 43, 28]
abbrev dktJ2_fastRemove_0 : List UInt8 := dkwJ2_fastRemove_0 ++ dktJ2_fastRemove_1
theorem dksJ2_fastRemove_0 : cJ2_fastRemove.data.toList.drop 0 = dktJ2_fastRemove_0 := by decide +kernel
theorem dksJ2_fastRemove_1 : cJ2_fastRemove.data.toList.drop 24 = dktJ2_fastRemove_1 := dk_seg dksJ2_fastRemove_0 24 rfl rfl
theorem dJ2_fastRemove_0 : decode cJ2_fastRemove 0 = .ok (.aload_n 0, 1) := dk_42 (dk_at dksJ2_fastRemove_0 0 rfl rfl)
theorem dJ2_fastRemove_1 : decode cJ2_fastRemove 1 = .ok (.dup, 1) := dk_89 (dk_at dksJ2_fastRemove_0 1 rfl rfl)
theorem dJ2_fastRemove_2 : decode cJ2_fastRemove 2 = .ok (.getfield 63, 3) := dk_180 0 63 (dk_at dksJ2_fastRemove_0 2 rfl rfl)
theorem dJ2_fastRemove_5 : decode cJ2_fastRemove 5 = .ok (.iconst 1, 1) := dk_4 (dk_at dksJ2_fastRemove_0 5 rfl rfl)
theorem dJ2_fastRemove_6 : decode cJ2_fastRemove 6 = .ok (.iadd, 1) := dk_96 (dk_at dksJ2_fastRemove_0 6 rfl rfl)
theorem dJ2_fastRemove_7 : decode cJ2_fastRemove 7 = .ok (.putfield 63, 3) := dk_181 0 63 (dk_at dksJ2_fastRemove_0 7 rfl rfl)
theorem dJ2_fastRemove_10 : decode cJ2_fastRemove 10 = .ok (.aload_n 0, 1) := dk_42 (dk_at dksJ2_fastRemove_0 10 rfl rfl)
theorem dJ2_fastRemove_11 : decode cJ2_fastRemove 11 = .ok (.getfield 48, 3) := dk_180 0 48 (dk_at dksJ2_fastRemove_0 11 rfl rfl)
theorem dJ2_fastRemove_14 : decode cJ2_fastRemove 14 = .ok (.iconst 1, 1) := dk_4 (dk_at dksJ2_fastRemove_0 14 rfl rfl)
theorem dJ2_fastRemove_15 : decode cJ2_fastRemove 15 = .ok (.isub, 1) := dk_100 (dk_at dksJ2_fastRemove_0 15 rfl rfl)
theorem dJ2_fastRemove_16 : decode cJ2_fastRemove 16 = .ok (.dup, 1) := dk_89 (dk_at dksJ2_fastRemove_0 16 rfl rfl)
theorem dJ2_fastRemove_17 : decode cJ2_fastRemove 17 = .ok (.istore_n 3, 1) := dk_62 (dk_at dksJ2_fastRemove_0 17 rfl rfl)
theorem dJ2_fastRemove_18 : decode cJ2_fastRemove 18 = .ok (.iload_n 2, 1) := dk_28 (dk_at dksJ2_fastRemove_0 18 rfl rfl)
theorem dJ2_fastRemove_19 : decode cJ2_fastRemove 19 = .ok (.if_icmp .le 15, 3) := dk_164 0 15 (dk_at dksJ2_fastRemove_0 19 rfl rfl)
theorem dJ2_fastRemove_22 : decode cJ2_fastRemove 22 = .ok (.aload_n 1, 1) := dk_43 (dk_at dksJ2_fastRemove_0 22 rfl rfl)
theorem dJ2_fastRemove_23 : decode cJ2_fastRemove 23 = .ok (.iload_n 2, 1) := dk_28 (dk_at dksJ2_fastRemove_0 23 rfl rfl)
theorem dJ2_fastRemove_24 : decode cJ2_fastRemove 24 = .ok (.iconst 1, 1) := dk_4 (dk_at dksJ2_fastRemove_1 0 rfl rfl)
theorem dJ2_fastRemove_25 : decode cJ2_fastRemove 25 = .ok (.iadd, 1) := dk_96 (dk_at dksJ2_fastRemove_1 1 rfl rfl)
theorem dJ2_fastRemove_26 : decode cJ2_fastRemove 26 = .ok (.aload_n 1, 1) := dk_43 (dk_at dksJ2_fastRemove_1 2 rfl rfl)
theorem dJ2_fastRemove_27 : decode cJ2_fastRemove 27 = .ok (.iload_n 2, 1) := dk_28 (dk_at dksJ2_fastRemove_1 3 rfl rfl)
theorem dJ2_fastRemove_28 : decode cJ2_fastRemove 28 = .ok (.iload_n 3, 1) := dk_29 (dk_at dksJ2_fastRemove_1 4 rfl rfl)
theorem dJ2_fastRemove_29 : decode cJ2_fastRemove 29 = .ok (.iload_n 2, 1) := dk_28 (dk_at dksJ2_fastRemove_1 5 rfl rfl)
theorem dJ2_fastRemove_30 : decode cJ2_fastRemove 30 = .ok (.isub, 1) := dk_100 (dk_at dksJ2_fastRemove_1 6 rfl rfl)
theorem dJ2_fastRemove_31 : decode cJ2_fastRemove 31 = .ok (.invokestatic 112, 3) := dk_184 0 112 (dk_at dksJ2_fastRemove_1 7 rfl rfl)
theorem dJ2_fastRemove_34 : decode cJ2_fastRemove 34 = .ok (.aload_n 1, 1) := dk_43 (dk_at dksJ2_fastRemove_1 10 rfl rfl)
theorem dJ2_fastRemove_35 : decode cJ2_fastRemove 35 = .ok (.aload_n 0, 1) := dk_42 (dk_at dksJ2_fastRemove_1 11 rfl rfl)
theorem dJ2_fastRemove_36 : decode cJ2_fastRemove 36 = .ok (.iload_n 3, 1) := dk_29 (dk_at dksJ2_fastRemove_1 12 rfl rfl)
theorem dJ2_fastRemove_37 : decode cJ2_fastRemove 37 = .ok (.dup_x1, 1) := dk_90 (dk_at dksJ2_fastRemove_1 13 rfl rfl)
theorem dJ2_fastRemove_38 : decode cJ2_fastRemove 38 = .ok (.putfield 48, 3) := dk_181 0 48 (dk_at dksJ2_fastRemove_1 14 rfl rfl)
theorem dJ2_fastRemove_41 : decode cJ2_fastRemove 41 = .ok (.aconst_null, 1) := dk_1 (dk_at dksJ2_fastRemove_1 17 rfl rfl)
theorem dJ2_fastRemove_42 : decode cJ2_fastRemove 42 = .ok (.aastore, 1) := dk_83 (dk_at dksJ2_fastRemove_1 18 rfl rfl)
theorem dJ2_fastRemove_43 : decode cJ2_fastRemove 43 = .ok (.return_, 1) := dk_177 (dk_at dksJ2_fastRemove_1 19 rfl rfl)
abbrev cJ2_addAll : ByteArray := prog_43_method_41_code
def yJ2_addAll : MethodName := ⟨RJ2, "addAll", "(Ljava/util/Collection;)Z"⟩
def dkwJ2_addAll_3 : List UInt8 := [181, 0, 48, 4, 172]
abbrev dktJ2_addAll_3 : List UInt8 := dkwJ2_addAll_3 ++ []
def dkwJ2_addAll_2 : List UInt8 := [21, 5, 29, 96, 182, 0, 69, 58, 4, 44, 3, 25, 4, 21, 5, 29, 184, 0, 112, 42, 21, 5, 29, 96]
abbrev dktJ2_addAll_2 : List UInt8 := dkwJ2_addAll_2 ++ dktJ2_addAll_3
def dkwJ2_addAll_1 : List UInt8 := [3, 172, 29, 42, 180, 0, 9, 89, 58, 4, 190, 42, 180, 0, 48, 89, 54, 5, 100, 164, 0, 13, 42]
abbrev dktJ2_addAll_1 : List UInt8 := dkwJ2_addAll_1 ++ dktJ2_addAll_2
def dkwJ2_addAll_0 : List UInt8 := [43, 185, 0, 42, 1, 0, 77, 42, 89, 180, 0, 63, 4, 96, 181, 0, 63, 44, 190, 62, 29, 154, 0, 5]
abbrev dktJ2_addAll_0 : List UInt8 := dkwJ2_addAll_0 ++ dktJ2_addAll_1
theorem dksJ2_addAll_0 : cJ2_addAll.data.toList.drop 0 = dktJ2_addAll_0 := by decide +kernel
theorem dksJ2_addAll_1 : cJ2_addAll.data.toList.drop 24 = dktJ2_addAll_1 := dk_seg dksJ2_addAll_0 24 rfl rfl
theorem dksJ2_addAll_2 : cJ2_addAll.data.toList.drop 47 = dktJ2_addAll_2 := dk_seg dksJ2_addAll_1 23 rfl rfl
theorem dksJ2_addAll_3 : cJ2_addAll.data.toList.drop 71 = dktJ2_addAll_3 := dk_seg dksJ2_addAll_2 24 rfl rfl
theorem dJ2_addAll_0 : decode cJ2_addAll 0 = .ok (.aload_n 1, 1) := dk_43 (dk_at dksJ2_addAll_0 0 rfl rfl)
theorem dJ2_addAll_1 : decode cJ2_addAll 1 = .ok (.invokeinterface 42 1, 5) := by decide +kernel
theorem dJ2_addAll_6 : decode cJ2_addAll 6 = .ok (.astore_n 2, 1) := dk_77 (dk_at dksJ2_addAll_0 6 rfl rfl)
theorem dJ2_addAll_7 : decode cJ2_addAll 7 = .ok (.aload_n 0, 1) := dk_42 (dk_at dksJ2_addAll_0 7 rfl rfl)
theorem dJ2_addAll_8 : decode cJ2_addAll 8 = .ok (.dup, 1) := dk_89 (dk_at dksJ2_addAll_0 8 rfl rfl)
theorem dJ2_addAll_9 : decode cJ2_addAll 9 = .ok (.getfield 63, 3) := dk_180 0 63 (dk_at dksJ2_addAll_0 9 rfl rfl)
theorem dJ2_addAll_12 : decode cJ2_addAll 12 = .ok (.iconst 1, 1) := dk_4 (dk_at dksJ2_addAll_0 12 rfl rfl)
theorem dJ2_addAll_13 : decode cJ2_addAll 13 = .ok (.iadd, 1) := dk_96 (dk_at dksJ2_addAll_0 13 rfl rfl)
theorem dJ2_addAll_14 : decode cJ2_addAll 14 = .ok (.putfield 63, 3) := dk_181 0 63 (dk_at dksJ2_addAll_0 14 rfl rfl)
theorem dJ2_addAll_17 : decode cJ2_addAll 17 = .ok (.aload_n 2, 1) := dk_44 (dk_at dksJ2_addAll_0 17 rfl rfl)
theorem dJ2_addAll_18 : decode cJ2_addAll 18 = .ok (.arraylength, 1) := dk_190 (dk_at dksJ2_addAll_0 18 rfl rfl)
theorem dJ2_addAll_19 : decode cJ2_addAll 19 = .ok (.istore_n 3, 1) := dk_62 (dk_at dksJ2_addAll_0 19 rfl rfl)
theorem dJ2_addAll_20 : decode cJ2_addAll 20 = .ok (.iload_n 3, 1) := dk_29 (dk_at dksJ2_addAll_0 20 rfl rfl)
theorem dJ2_addAll_21 : decode cJ2_addAll 21 = .ok (.ifCond .ne 5, 3) := dk_154 0 5 (dk_at dksJ2_addAll_0 21 rfl rfl)
theorem dJ2_addAll_24 : decode cJ2_addAll 24 = .ok (.iconst 0, 1) := dk_3 (dk_at dksJ2_addAll_1 0 rfl rfl)
theorem dJ2_addAll_25 : decode cJ2_addAll 25 = .ok (.ireturn, 1) := dk_172 (dk_at dksJ2_addAll_1 1 rfl rfl)
theorem dJ2_addAll_26 : decode cJ2_addAll 26 = .ok (.iload_n 3, 1) := dk_29 (dk_at dksJ2_addAll_1 2 rfl rfl)
theorem dJ2_addAll_27 : decode cJ2_addAll 27 = .ok (.aload_n 0, 1) := dk_42 (dk_at dksJ2_addAll_1 3 rfl rfl)
theorem dJ2_addAll_28 : decode cJ2_addAll 28 = .ok (.getfield 9, 3) := dk_180 0 9 (dk_at dksJ2_addAll_1 4 rfl rfl)
theorem dJ2_addAll_31 : decode cJ2_addAll 31 = .ok (.dup, 1) := dk_89 (dk_at dksJ2_addAll_1 7 rfl rfl)
theorem dJ2_addAll_32 : decode cJ2_addAll 32 = .ok (.astore 4, 2) := dk_58 4 (dk_at dksJ2_addAll_1 8 rfl rfl)
theorem dJ2_addAll_34 : decode cJ2_addAll 34 = .ok (.arraylength, 1) := dk_190 (dk_at dksJ2_addAll_1 10 rfl rfl)
theorem dJ2_addAll_35 : decode cJ2_addAll 35 = .ok (.aload_n 0, 1) := dk_42 (dk_at dksJ2_addAll_1 11 rfl rfl)
theorem dJ2_addAll_36 : decode cJ2_addAll 36 = .ok (.getfield 48, 3) := dk_180 0 48 (dk_at dksJ2_addAll_1 12 rfl rfl)
theorem dJ2_addAll_39 : decode cJ2_addAll 39 = .ok (.dup, 1) := dk_89 (dk_at dksJ2_addAll_1 15 rfl rfl)
theorem dJ2_addAll_40 : decode cJ2_addAll 40 = .ok (.istore 5, 2) := dk_54 5 (dk_at dksJ2_addAll_1 16 rfl rfl)
theorem dJ2_addAll_42 : decode cJ2_addAll 42 = .ok (.isub, 1) := dk_100 (dk_at dksJ2_addAll_1 18 rfl rfl)
theorem dJ2_addAll_43 : decode cJ2_addAll 43 = .ok (.if_icmp .le 13, 3) := dk_164 0 13 (dk_at dksJ2_addAll_1 19 rfl rfl)
theorem dJ2_addAll_46 : decode cJ2_addAll 46 = .ok (.aload_n 0, 1) := dk_42 (dk_at dksJ2_addAll_1 22 rfl rfl)
theorem dJ2_addAll_47 : decode cJ2_addAll 47 = .ok (.iload 5, 2) := dk_21 5 (dk_at dksJ2_addAll_2 0 rfl rfl)
theorem dJ2_addAll_49 : decode cJ2_addAll 49 = .ok (.iload_n 3, 1) := dk_29 (dk_at dksJ2_addAll_2 2 rfl rfl)
theorem dJ2_addAll_50 : decode cJ2_addAll 50 = .ok (.iadd, 1) := dk_96 (dk_at dksJ2_addAll_2 3 rfl rfl)
theorem dJ2_addAll_51 : decode cJ2_addAll 51 = .ok (.invokevirtual 69, 3) := dk_182 0 69 (dk_at dksJ2_addAll_2 4 rfl rfl)
theorem dJ2_addAll_54 : decode cJ2_addAll 54 = .ok (.astore 4, 2) := dk_58 4 (dk_at dksJ2_addAll_2 7 rfl rfl)
theorem dJ2_addAll_56 : decode cJ2_addAll 56 = .ok (.aload_n 2, 1) := dk_44 (dk_at dksJ2_addAll_2 9 rfl rfl)
theorem dJ2_addAll_57 : decode cJ2_addAll 57 = .ok (.iconst 0, 1) := dk_3 (dk_at dksJ2_addAll_2 10 rfl rfl)
theorem dJ2_addAll_58 : decode cJ2_addAll 58 = .ok (.aload 4, 2) := dk_25 4 (dk_at dksJ2_addAll_2 11 rfl rfl)
theorem dJ2_addAll_60 : decode cJ2_addAll 60 = .ok (.iload 5, 2) := dk_21 5 (dk_at dksJ2_addAll_2 13 rfl rfl)
theorem dJ2_addAll_62 : decode cJ2_addAll 62 = .ok (.iload_n 3, 1) := dk_29 (dk_at dksJ2_addAll_2 15 rfl rfl)
theorem dJ2_addAll_63 : decode cJ2_addAll 63 = .ok (.invokestatic 112, 3) := dk_184 0 112 (dk_at dksJ2_addAll_2 16 rfl rfl)
theorem dJ2_addAll_66 : decode cJ2_addAll 66 = .ok (.aload_n 0, 1) := dk_42 (dk_at dksJ2_addAll_2 19 rfl rfl)
theorem dJ2_addAll_67 : decode cJ2_addAll 67 = .ok (.iload 5, 2) := dk_21 5 (dk_at dksJ2_addAll_2 20 rfl rfl)
theorem dJ2_addAll_69 : decode cJ2_addAll 69 = .ok (.iload_n 3, 1) := dk_29 (dk_at dksJ2_addAll_2 22 rfl rfl)
theorem dJ2_addAll_70 : decode cJ2_addAll 70 = .ok (.iadd, 1) := dk_96 (dk_at dksJ2_addAll_2 23 rfl rfl)
theorem dJ2_addAll_71 : decode cJ2_addAll 71 = .ok (.putfield 48, 3) := dk_181 0 48 (dk_at dksJ2_addAll_3 0 rfl rfl)
theorem dJ2_addAll_74 : decode cJ2_addAll 74 = .ok (.iconst 1, 1) := dk_4 (dk_at dksJ2_addAll_3 3 rfl rfl)
theorem dJ2_addAll_75 : decode cJ2_addAll 75 = .ok (.ireturn, 1) := dk_172 (dk_at dksJ2_addAll_3 4 rfl rfl)
abbrev cJ2_toArray : ByteArray := prog_43_method_16_code
def yJ2_toArray : MethodName := ⟨RJ2, "toArray", "()[Ljava/lang/Object;"⟩
def dkwJ2_toArray_0 : List UInt8 := [42, 180, 0, 9, 42, 180, 0, 48, 184, 0, 66, 176]
abbrev dktJ2_toArray_0 : List UInt8 := dkwJ2_toArray_0 ++ []
theorem dksJ2_toArray_0 : cJ2_toArray.data.toList.drop 0 = dktJ2_toArray_0 := by decide +kernel
theorem dJ2_toArray_0 : decode cJ2_toArray 0 = .ok (.aload_n 0, 1) := dk_42 (dk_at dksJ2_toArray_0 0 rfl rfl)
theorem dJ2_toArray_1 : decode cJ2_toArray 1 = .ok (.getfield 9, 3) := dk_180 0 9 (dk_at dksJ2_toArray_0 1 rfl rfl)
theorem dJ2_toArray_4 : decode cJ2_toArray 4 = .ok (.aload_n 0, 1) := dk_42 (dk_at dksJ2_toArray_0 4 rfl rfl)
theorem dJ2_toArray_5 : decode cJ2_toArray 5 = .ok (.getfield 48, 3) := dk_180 0 48 (dk_at dksJ2_toArray_0 5 rfl rfl)
theorem dJ2_toArray_8 : decode cJ2_toArray 8 = .ok (.invokestatic 66, 3) := dk_184 0 66 (dk_at dksJ2_toArray_0 8 rfl rfl)
theorem dJ2_toArray_11 : decode cJ2_toArray 11 = .ok (.areturn, 1) := dk_176 (dk_at dksJ2_toArray_0 11 rfl rfl)
abbrev cJ2_set : ByteArray := prog_43_method_23_code
def yJ2_set : MethodName := ⟨RJ2, "set", "(ILjava/lang/Object;)Ljava/lang/Object;"⟩
def dkwJ2_set_0 : List UInt8 := [27, 42, 180, 0, 48, 184, 0, 118, 87, 42, 27, 182, 0, 123, 78, 42, 180, 0, 9, 27, 44, 83, 45, 176]
abbrev dktJ2_set_0 : List UInt8 := dkwJ2_set_0 ++ []
theorem dksJ2_set_0 : cJ2_set.data.toList.drop 0 = dktJ2_set_0 := by decide +kernel
theorem dJ2_set_0 : decode cJ2_set 0 = .ok (.iload_n 1, 1) := dk_27 (dk_at dksJ2_set_0 0 rfl rfl)
theorem dJ2_set_1 : decode cJ2_set 1 = .ok (.aload_n 0, 1) := dk_42 (dk_at dksJ2_set_0 1 rfl rfl)
theorem dJ2_set_2 : decode cJ2_set 2 = .ok (.getfield 48, 3) := dk_180 0 48 (dk_at dksJ2_set_0 2 rfl rfl)
theorem dJ2_set_5 : decode cJ2_set 5 = .ok (.invokestatic 118, 3) := dk_184 0 118 (dk_at dksJ2_set_0 5 rfl rfl)
theorem dJ2_set_8 : decode cJ2_set 8 = .ok (.pop, 1) := dk_87 (dk_at dksJ2_set_0 8 rfl rfl)
theorem dJ2_set_9 : decode cJ2_set 9 = .ok (.aload_n 0, 1) := dk_42 (dk_at dksJ2_set_0 9 rfl rfl)
theorem dJ2_set_10 : decode cJ2_set 10 = .ok (.iload_n 1, 1) := dk_27 (dk_at dksJ2_set_0 10 rfl rfl)
theorem dJ2_set_11 : decode cJ2_set 11 = .ok (.invokevirtual 123, 3) := dk_182 0 123 (dk_at dksJ2_set_0 11 rfl rfl)
theorem dJ2_set_14 : decode cJ2_set 14 = .ok (.astore_n 3, 1) := dk_78 (dk_at dksJ2_set_0 14 rfl rfl)
theorem dJ2_set_15 : decode cJ2_set 15 = .ok (.aload_n 0, 1) := dk_42 (dk_at dksJ2_set_0 15 rfl rfl)
theorem dJ2_set_16 : decode cJ2_set 16 = .ok (.getfield 9, 3) := dk_180 0 9 (dk_at dksJ2_set_0 16 rfl rfl)
theorem dJ2_set_19 : decode cJ2_set 19 = .ok (.iload_n 1, 1) := dk_27 (dk_at dksJ2_set_0 19 rfl rfl)
theorem dJ2_set_20 : decode cJ2_set 20 = .ok (.aload_n 2, 1) := dk_44 (dk_at dksJ2_set_0 20 rfl rfl)
theorem dJ2_set_21 : decode cJ2_set 21 = .ok (.aastore, 1) := dk_83 (dk_at dksJ2_set_0 21 rfl rfl)
theorem dJ2_set_22 : decode cJ2_set 22 = .ok (.aload_n 3, 1) := dk_45 (dk_at dksJ2_set_0 22 rfl rfl)
theorem dJ2_set_23 : decode cJ2_set 23 = .ok (.areturn, 1) := dk_176 (dk_at dksJ2_set_0 23 rfl rfl)
abbrev cJ2_isEmpty : ByteArray := prog_43_method_9_code
def yJ2_isEmpty : MethodName := ⟨RJ2, "isEmpty", "()Z"⟩
def dkwJ2_isEmpty_0 : List UInt8 := [42, 180, 0, 48, 154, 0, 7, 4, 167, 0, 4, 3, 172]
abbrev dktJ2_isEmpty_0 : List UInt8 := dkwJ2_isEmpty_0 ++ []
theorem dksJ2_isEmpty_0 : cJ2_isEmpty.data.toList.drop 0 = dktJ2_isEmpty_0 := by decide +kernel
theorem dJ2_isEmpty_0 : decode cJ2_isEmpty 0 = .ok (.aload_n 0, 1) := dk_42 (dk_at dksJ2_isEmpty_0 0 rfl rfl)
theorem dJ2_isEmpty_1 : decode cJ2_isEmpty 1 = .ok (.getfield 48, 3) := dk_180 0 48 (dk_at dksJ2_isEmpty_0 1 rfl rfl)
theorem dJ2_isEmpty_4 : decode cJ2_isEmpty 4 = .ok (.ifCond .ne 7, 3) := dk_154 0 7 (dk_at dksJ2_isEmpty_0 4 rfl rfl)
theorem dJ2_isEmpty_7 : decode cJ2_isEmpty 7 = .ok (.iconst 1, 1) := dk_4 (dk_at dksJ2_isEmpty_0 7 rfl rfl)
theorem dJ2_isEmpty_8 : decode cJ2_isEmpty 8 = .ok (.goto 4, 3) := dk_167 0 4 (dk_at dksJ2_isEmpty_0 8 rfl rfl)
theorem dJ2_isEmpty_11 : decode cJ2_isEmpty 11 = .ok (.iconst 0, 1) := dk_3 (dk_at dksJ2_isEmpty_0 11 rfl rfl)
theorem dJ2_isEmpty_12 : decode cJ2_isEmpty 12 = .ok (.ireturn, 1) := dk_172 (dk_at dksJ2_isEmpty_0 12 rfl rfl)
theorem q90 : (Jvm.Cond.initialized "java/util/ArrayList") ∈ lw_all := lw_g (lw_at lw_m1 5 rfl) rfl
theorem q141 : (Jvm.Cond.instantiable "java/util/ArrayList" (3 : Nat)) ∈ lw_all := lw_g (lw_at lw_m1 56 rfl) rfl
theorem q143 : (Jvm.Cond.instanceMethod ({ cls := "java/util/ArrayList", name := "<init>", desc := "(I)V" } : Jvm.MethodName)) ∈ lw_all := lw_g (lw_at lw_m1 58 rfl) rfl
theorem q144 : (Jvm.Cond.code ({ cls := "java/util/ArrayList", name := "<init>", desc := "(I)V" } : Jvm.MethodName) prog_43_method_1_code (2 : Nat) (Option.none : Option Jvm.ClassFile.FieldType)) ∈ lw_all := lw_g (lw_at lw_m1 59 rfl) rfl
theorem q145 : (Jvm.Cond.methodLink "java/util/ArrayList" (1 : Nat) ({ cls := "java/util/AbstractList", name := "<init>", desc := "()V" } : Jvm.MethodName)) ∈ lw_all := lw_g (lw_at lw_m1 60 rfl) rfl
theorem q152 : (Jvm.Cond.classLink "java/util/ArrayList" (7 : Nat) "java/lang/Object") ∈ lw_all := lw_g (lw_at lw_m1 67 rfl) rfl
theorem q154 : (Jvm.Cond.fieldLink "java/util/ArrayList" (15 : Nat) "java/util/ArrayList" "EMPTY_ELEMENTDATA" "[Ljava/lang/Object;") ∈ lw_all := lw_g (lw_at lw_m1 69 rfl) rfl
theorem q155 : (Jvm.Cond.laysStatic "java/util/ArrayList" "EMPTY_ELEMENTDATA" "[Ljava/lang/Object;") ∈ lw_tbl := lw_at lw_m1 70 rfl
theorem q156 : (Jvm.Cond.classLink "java/util/ArrayList" (18 : Nat) "java/lang/IllegalArgumentException") ∈ lw_all := lw_g (lw_at lw_m1 71 rfl) rfl
theorem q199 : (Jvm.Cond.classLink "java/util/ArrayList" (20 : Nat) "java/lang/StringBuilder") ∈ lw_all := lw_g (lw_at lw_m1 114 rfl) rfl
theorem q201 : (Jvm.Cond.methodLink "java/util/ArrayList" (22 : Nat) ({ cls := "java/lang/StringBuilder", name := "<init>", desc := "()V" } : Jvm.MethodName)) ∈ lw_all := lw_g (lw_at lw_m1 116 rfl) rfl
theorem q231 : (Jvm.Cond.stringRef "java/util/ArrayList" (23 : Nat) "Illegal Capacity: ") ∈ lw_tbl := lw_at lw_m1 146 rfl
theorem q232 : (Jvm.Cond.methodLink "java/util/ArrayList" (25 : Nat) ({ cls := "java/lang/StringBuilder", name := "append", desc := "(Ljava/lang/String;)Ljava/lang/StringBuilder;" } : Jvm.MethodName)) ∈ lw_all := lw_g (lw_at lw_m1 147 rfl) rfl
theorem q352 : (Jvm.Cond.methodLink "java/util/ArrayList" (29 : Nat) ({ cls := "java/lang/StringBuilder", name := "append", desc := "(I)Ljava/lang/StringBuilder;" } : Jvm.MethodName)) ∈ lw_all := lw_g (lw_at lw_m2 27 rfl) rfl
theorem q377 : (Jvm.Cond.methodLink "java/util/ArrayList" (32 : Nat) ({ cls := "java/lang/StringBuilder", name := "toString", desc := "()Ljava/lang/String;" } : Jvm.MethodName)) ∈ lw_all := lw_g (lw_at lw_m2 52 rfl) rfl
theorem q469 : (Jvm.Cond.methodLink "java/util/ArrayList" (36 : Nat) ({ cls := "java/lang/IllegalArgumentException", name := "<init>", desc := "(Ljava/lang/String;)V" } : Jvm.MethodName)) ∈ lw_all := lw_g (lw_at lw_m2 144 rfl) rfl
theorem q470 : (Jvm.Cond.fieldLink "java/util/ArrayList" (9 : Nat) "java/util/ArrayList" "elementData" "[Ljava/lang/Object;") ∈ lw_all := lw_g (lw_at lw_m2 145 rfl) rfl
theorem q471 : (Jvm.Cond.fieldLink "java/util/ArrayList" (48 : Nat) "java/util/ArrayList" "size" "I") ∈ lw_all := lw_g (lw_at lw_m2 146 rfl) rfl
theorem q473 : (Jvm.Cond.fieldLink "java/util/ArrayList" (63 : Nat) "java/util/ArrayList" "modCount" "I") ∈ lw_all := lw_g (lw_at lw_m2 148 rfl) rfl
theorem q474 : (Jvm.Cond.sameField "java/util/ArrayList" "java/util/AbstractList" "modCount" "I") ∈ lw_all := lw_g (lw_at lw_m2 149 rfl) rfl
theorem q475 : (Jvm.Cond.lays "java/util/ArrayList" "java/util/ArrayList" "elementData" "[Ljava/lang/Object;") ∈ lw_all := lw_g (lw_at lw_m2 150 rfl) rfl
theorem q476 : (Jvm.Cond.soleField "java/util/ArrayList" "elementData") ∈ lw_all := lw_g (lw_at lw_m2 151 rfl) rfl
theorem q477 : (Jvm.Cond.lays "java/util/ArrayList" "java/util/ArrayList" "size" "I") ∈ lw_all := lw_g (lw_at lw_m2 152 rfl) rfl
theorem q478 : (Jvm.Cond.soleField "java/util/ArrayList" "size") ∈ lw_all := lw_g (lw_at lw_m2 153 rfl) rfl
theorem q479 : (Jvm.Cond.lays "java/util/ArrayList" "java/util/AbstractList" "modCount" "I") ∈ lw_all := lw_g (lw_at lw_m2 154 rfl) rfl
theorem q481 : (Jvm.Cond.superclass "java/util/ArrayList" "java/util/AbstractList") ∈ lw_all := lw_g (lw_at lw_m2 156 rfl) rfl
theorem q770 : (Jvm.Cond.instanceMethod ({ cls := "java/util/ArrayList", name := "size", desc := "()I" } : Jvm.MethodName)) ∈ lw_all := lw_g (lw_at lw_m3 205 rfl) rfl
theorem q771 : (Jvm.Cond.selects "java/util/ArrayList" ({ cls := "java/util/ArrayList", name := "size", desc := "()I" } : Jvm.MethodName) ({ cls := "java/util/ArrayList", name := "size", desc := "()I" } : Jvm.MethodName)) ∈ lw_all := lw_g (lw_at lw_m3 206 rfl) rfl
theorem q772 : (Jvm.Cond.code ({ cls := "java/util/ArrayList", name := "size", desc := "()I" } : Jvm.MethodName) prog_43_method_8_code (1 : Nat) (Option.some Jvm.ClassFile.FieldType.int)) ∈ lw_all := lw_g (lw_at lw_m3 207 rfl) rfl
theorem q837 : (Jvm.Cond.instanceMethod ({ cls := "java/util/ArrayList", name := "add", desc := "(Ljava/lang/Object;)Z" } : Jvm.MethodName)) ∈ lw_all := lw_g (lw_at lw_m4 32 rfl) rfl
theorem q838 : (Jvm.Cond.selects "java/util/ArrayList" ({ cls := "java/util/ArrayList", name := "add", desc := "(Ljava/lang/Object;)Z" } : Jvm.MethodName) ({ cls := "java/util/ArrayList", name := "add", desc := "(Ljava/lang/Object;)Z" } : Jvm.MethodName)) ∈ lw_all := lw_g (lw_at lw_m4 33 rfl) rfl
theorem q839 : (Jvm.Cond.code ({ cls := "java/util/ArrayList", name := "add", desc := "(Ljava/lang/Object;)Z" } : Jvm.MethodName) prog_43_method_25_code (2 : Nat) (Option.some Jvm.ClassFile.FieldType.boolean)) ∈ lw_all := lw_g (lw_at lw_m4 34 rfl) rfl
theorem q840 : (Jvm.Cond.methodLink "java/util/ArrayList" (131 : Nat) ({ cls := "java/util/ArrayList", name := "add", desc := "(Ljava/lang/Object;[Ljava/lang/Object;I)V" } : Jvm.MethodName)) ∈ lw_all := lw_g (lw_at lw_m4 35 rfl) rfl
theorem q841 : (Jvm.Cond.privateMethod ({ cls := "java/util/ArrayList", name := "add", desc := "(Ljava/lang/Object;[Ljava/lang/Object;I)V" } : Jvm.MethodName)) ∈ lw_tbl := lw_at lw_m4 36 rfl
theorem q842 : (Jvm.Cond.instanceMethod ({ cls := "java/util/ArrayList", name := "add", desc := "(Ljava/lang/Object;[Ljava/lang/Object;I)V" } : Jvm.MethodName)) ∈ lw_all := lw_g (lw_at lw_m4 37 rfl) rfl
theorem q843 : (Jvm.Cond.code ({ cls := "java/util/ArrayList", name := "add", desc := "(Ljava/lang/Object;[Ljava/lang/Object;I)V" } : Jvm.MethodName) prog_43_method_24_code (4 : Nat) (Option.none : Option Jvm.ClassFile.FieldType)) ∈ lw_all := lw_g (lw_at lw_m4 38 rfl) rfl
theorem q844 : (Jvm.Cond.methodLink "java/util/ArrayList" (129 : Nat) ({ cls := "java/util/ArrayList", name := "grow", desc := "()[Ljava/lang/Object;" } : Jvm.MethodName)) ∈ lw_all := lw_g (lw_at lw_m4 39 rfl) rfl
theorem q845 : (Jvm.Cond.privateMethod ({ cls := "java/util/ArrayList", name := "grow", desc := "()[Ljava/lang/Object;" } : Jvm.MethodName)) ∈ lw_tbl := lw_at lw_m4 40 rfl
theorem q846 : (Jvm.Cond.instanceMethod ({ cls := "java/util/ArrayList", name := "grow", desc := "()[Ljava/lang/Object;" } : Jvm.MethodName)) ∈ lw_all := lw_g (lw_at lw_m4 41 rfl) rfl
theorem q847 : (Jvm.Cond.code ({ cls := "java/util/ArrayList", name := "grow", desc := "()[Ljava/lang/Object;" } : Jvm.MethodName) prog_43_method_7_code (1 : Nat) (Option.some (Jvm.ClassFile.FieldType.array (Jvm.ClassFile.FieldType.object "java/lang/Object")))) ∈ lw_all := lw_g (lw_at lw_m4 42 rfl) rfl
theorem q848 : (Jvm.Cond.methodLink "java/util/ArrayList" (69 : Nat) ({ cls := "java/util/ArrayList", name := "grow", desc := "(I)[Ljava/lang/Object;" } : Jvm.MethodName)) ∈ lw_all := lw_g (lw_at lw_m4 43 rfl) rfl
theorem q849 : (Jvm.Cond.privateMethod ({ cls := "java/util/ArrayList", name := "grow", desc := "(I)[Ljava/lang/Object;" } : Jvm.MethodName)) ∈ lw_tbl := lw_at lw_m4 44 rfl
theorem q850 : (Jvm.Cond.instanceMethod ({ cls := "java/util/ArrayList", name := "grow", desc := "(I)[Ljava/lang/Object;" } : Jvm.MethodName)) ∈ lw_all := lw_g (lw_at lw_m4 45 rfl) rfl
theorem q851 : (Jvm.Cond.code ({ cls := "java/util/ArrayList", name := "grow", desc := "(I)[Ljava/lang/Object;" } : Jvm.MethodName) prog_43_method_6_code (4 : Nat) (Option.some (Jvm.ClassFile.FieldType.array (Jvm.ClassFile.FieldType.object "java/lang/Object")))) ∈ lw_all := lw_g (lw_at lw_m4 46 rfl) rfl
theorem q852 : (Jvm.Cond.fieldLink "java/util/ArrayList" (39 : Nat) "java/util/ArrayList" "DEFAULTCAPACITY_EMPTY_ELEMENTDATA" "[Ljava/lang/Object;") ∈ lw_all := lw_g (lw_at lw_m4 47 rfl) rfl
theorem q853 : (Jvm.Cond.laysStatic "java/util/ArrayList" "DEFAULTCAPACITY_EMPTY_ELEMENTDATA" "[Ljava/lang/Object;") ∈ lw_tbl := lw_at lw_m4 48 rfl
theorem q854 : (Jvm.Cond.methodLink "java/util/ArrayList" (73 : Nat) ({ cls := "jdk/internal/util/ArraysSupport", name := "newLength", desc := "(III)I" } : Jvm.MethodName)) ∈ lw_all := lw_g (lw_at lw_m4 49 rfl) rfl
theorem q855 : (Jvm.Cond.methodLink "java/util/ArrayList" (66 : Nat) ({ cls := "java/util/Arrays", name := "copyOf", desc := "([Ljava/lang/Object;I)[Ljava/lang/Object;" } : Jvm.MethodName)) ∈ lw_all := lw_g (lw_at lw_m4 50 rfl) rfl
theorem q885 : (Jvm.Cond.selects "java/util/ArrayList" ({ cls := "java/lang/Object", name := "getClass", desc := "()Ljava/lang/Class;" } : Jvm.MethodName) ({ cls := "java/lang/Object", name := "getClass", desc := "()Ljava/lang/Class;" } : Jvm.MethodName)) ∈ lw_all := lw_g (lw_at lw_m4 80 rfl) rfl
theorem q892 : (Jvm.Cond.methodLink "java/util/ArrayList" (79 : Nat) ({ cls := "java/lang/Math", name := "max", desc := "(II)I" } : Jvm.MethodName)) ∈ lw_all := lw_g (lw_at lw_m4 87 rfl) rfl
theorem q941 : (Jvm.Cond.instanceMethod ({ cls := "java/util/ArrayList", name := "get", desc := "(I)Ljava/lang/Object;" } : Jvm.MethodName)) ∈ lw_all := lw_g (lw_at lw_m4 136 rfl) rfl
theorem q942 : (Jvm.Cond.selects "java/util/ArrayList" ({ cls := "java/util/ArrayList", name := "get", desc := "(I)Ljava/lang/Object;" } : Jvm.MethodName) ({ cls := "java/util/ArrayList", name := "get", desc := "(I)Ljava/lang/Object;" } : Jvm.MethodName)) ∈ lw_all := lw_g (lw_at lw_m4 137 rfl) rfl
theorem q943 : (Jvm.Cond.code ({ cls := "java/util/ArrayList", name := "get", desc := "(I)Ljava/lang/Object;" } : Jvm.MethodName) prog_43_method_20_code (2 : Nat) (Option.some (Jvm.ClassFile.FieldType.object "java/lang/Object"))) ∈ lw_all := lw_g (lw_at lw_m4 138 rfl) rfl
theorem q944 : (Jvm.Cond.methodLink "java/util/ArrayList" (118 : Nat) ({ cls := "java/util/Objects", name := "checkIndex", desc := "(II)I" } : Jvm.MethodName)) ∈ lw_all := lw_g (lw_at lw_m4 139 rfl) rfl
theorem q948 : (Jvm.Cond.methodLink "java/util/ArrayList" (123 : Nat) ({ cls := "java/util/ArrayList", name := "elementData", desc := "(I)Ljava/lang/Object;" } : Jvm.MethodName)) ∈ lw_all := lw_g (lw_at lw_m4 143 rfl) rfl
theorem q949 : (Jvm.Cond.instanceMethod ({ cls := "java/util/ArrayList", name := "elementData", desc := "(I)Ljava/lang/Object;" } : Jvm.MethodName)) ∈ lw_all := lw_g (lw_at lw_m4 144 rfl) rfl
theorem q950 : (Jvm.Cond.selects "java/util/ArrayList" ({ cls := "java/util/ArrayList", name := "elementData", desc := "(I)Ljava/lang/Object;" } : Jvm.MethodName) ({ cls := "java/util/ArrayList", name := "elementData", desc := "(I)Ljava/lang/Object;" } : Jvm.MethodName)) ∈ lw_all := lw_g (lw_at lw_m4 145 rfl) rfl
theorem q951 : (Jvm.Cond.code ({ cls := "java/util/ArrayList", name := "elementData", desc := "(I)Ljava/lang/Object;" } : Jvm.MethodName) prog_43_method_18_code (2 : Nat) (Option.some (Jvm.ClassFile.FieldType.object "java/lang/Object"))) ∈ lw_all := lw_g (lw_at lw_m4 146 rfl) rfl
theorem q984 : (Jvm.Cond.instanceMethod ({ cls := "java/util/ArrayList", name := "clear", desc := "()V" } : Jvm.MethodName)) ∈ lw_all := lw_g (lw_at lw_m4 179 rfl) rfl
theorem q985 : (Jvm.Cond.selects "java/util/ArrayList" ({ cls := "java/util/ArrayList", name := "clear", desc := "()V" } : Jvm.MethodName) ({ cls := "java/util/ArrayList", name := "clear", desc := "()V" } : Jvm.MethodName)) ∈ lw_all := lw_g (lw_at lw_m4 180 rfl) rfl
theorem q986 : (Jvm.Cond.code ({ cls := "java/util/ArrayList", name := "clear", desc := "()V" } : Jvm.MethodName) prog_43_method_40_code (4 : Nat) (Option.none : Option Jvm.ClassFile.FieldType)) ∈ lw_all := lw_g (lw_at lw_m4 181 rfl) rfl
theorem q1074 : (Jvm.Cond.instanceMethod ({ cls := "java/util/ArrayList", name := "remove", desc := "(I)Ljava/lang/Object;" } : Jvm.MethodName)) ∈ lw_all := lw_g (lw_at lw_m5 29 rfl) rfl
theorem q1075 : (Jvm.Cond.selects "java/util/ArrayList" ({ cls := "java/util/ArrayList", name := "remove", desc := "(I)Ljava/lang/Object;" } : Jvm.MethodName) ({ cls := "java/util/ArrayList", name := "remove", desc := "(I)Ljava/lang/Object;" } : Jvm.MethodName)) ∈ lw_all := lw_g (lw_at lw_m5 30 rfl) rfl
theorem q1076 : (Jvm.Cond.code ({ cls := "java/util/ArrayList", name := "remove", desc := "(I)Ljava/lang/Object;" } : Jvm.MethodName) prog_43_method_29_code (4 : Nat) (Option.some (Jvm.ClassFile.FieldType.object "java/lang/Object"))) ∈ lw_all := lw_g (lw_at lw_m5 31 rfl) rfl
theorem q1077 : (Jvm.Cond.methodLink "java/util/ArrayList" (144 : Nat) ({ cls := "java/util/ArrayList", name := "fastRemove", desc := "([Ljava/lang/Object;I)V" } : Jvm.MethodName)) ∈ lw_all := lw_g (lw_at lw_m5 32 rfl) rfl
theorem q1078 : (Jvm.Cond.privateMethod ({ cls := "java/util/ArrayList", name := "fastRemove", desc := "([Ljava/lang/Object;I)V" } : Jvm.MethodName)) ∈ lw_tbl := lw_at lw_m5 33 rfl
theorem q1079 : (Jvm.Cond.instanceMethod ({ cls := "java/util/ArrayList", name := "fastRemove", desc := "([Ljava/lang/Object;I)V" } : Jvm.MethodName)) ∈ lw_all := lw_g (lw_at lw_m5 34 rfl) rfl
theorem q1080 : (Jvm.Cond.code ({ cls := "java/util/ArrayList", name := "fastRemove", desc := "([Ljava/lang/Object;I)V" } : Jvm.MethodName) prog_43_method_39_code (4 : Nat) (Option.none : Option Jvm.ClassFile.FieldType)) ∈ lw_all := lw_g (lw_at lw_m5 35 rfl) rfl
theorem q1081 : (Jvm.Cond.methodLink "java/util/ArrayList" (112 : Nat) ({ cls := "java/lang/System", name := "arraycopy", desc := "(Ljava/lang/Object;ILjava/lang/Object;II)V" } : Jvm.MethodName)) ∈ lw_all := lw_g (lw_at lw_m5 36 rfl) rfl
theorem q1134 : (Jvm.Cond.instanceMethod ({ cls := "java/util/ArrayList", name := "addAll", desc := "(Ljava/util/Collection;)Z" } : Jvm.MethodName)) ∈ lw_all := lw_g (lw_at lw_m5 89 rfl) rfl
theorem q1135 : (Jvm.Cond.selects "java/util/ArrayList" ({ cls := "java/util/ArrayList", name := "addAll", desc := "(Ljava/util/Collection;)Z" } : Jvm.MethodName) ({ cls := "java/util/ArrayList", name := "addAll", desc := "(Ljava/util/Collection;)Z" } : Jvm.MethodName)) ∈ lw_all := lw_g (lw_at lw_m5 90 rfl) rfl
theorem q1136 : (Jvm.Cond.code ({ cls := "java/util/ArrayList", name := "addAll", desc := "(Ljava/util/Collection;)Z" } : Jvm.MethodName) prog_43_method_41_code (6 : Nat) (Option.some Jvm.ClassFile.FieldType.boolean)) ∈ lw_all := lw_g (lw_at lw_m5 91 rfl) rfl
theorem q1137 : (Jvm.Cond.interfaceEntry "java/util/ArrayList" (42 : Nat)) ∈ lw_tbl := lw_at lw_m5 92 rfl
theorem q1138 : (Jvm.Cond.methodLink "java/util/ArrayList" (42 : Nat) ({ cls := "java/util/Collection", name := "toArray", desc := "()[Ljava/lang/Object;" } : Jvm.MethodName)) ∈ lw_all := lw_g (lw_at lw_m5 93 rfl) rfl
theorem q1141 : (Jvm.Cond.castable "java/util/ArrayList" "java/util/Collection") ∈ lw_tbl := lw_at lw_m5 96 rfl
theorem q1142 : (Jvm.Cond.selects "java/util/ArrayList" ({ cls := "java/util/Collection", name := "toArray", desc := "()[Ljava/lang/Object;" } : Jvm.MethodName) ({ cls := "java/util/ArrayList", name := "toArray", desc := "()[Ljava/lang/Object;" } : Jvm.MethodName)) ∈ lw_all := lw_g (lw_at lw_m5 97 rfl) rfl
theorem q1143 : (Jvm.Cond.unhidden "java/util/ArrayList" "toArray" "()[Ljava/lang/Object;") ∈ lw_tbl := lw_at lw_m5 98 rfl
theorem q1144 : (Jvm.Cond.instanceMethod ({ cls := "java/util/ArrayList", name := "toArray", desc := "()[Ljava/lang/Object;" } : Jvm.MethodName)) ∈ lw_all := lw_g (lw_at lw_m5 99 rfl) rfl
theorem q1145 : (Jvm.Cond.publicMethod ({ cls := "java/util/ArrayList", name := "toArray", desc := "()[Ljava/lang/Object;" } : Jvm.MethodName)) ∈ lw_tbl := lw_at lw_m5 100 rfl
theorem q1146 : (Jvm.Cond.code ({ cls := "java/util/ArrayList", name := "toArray", desc := "()[Ljava/lang/Object;" } : Jvm.MethodName) prog_43_method_16_code (1 : Nat) (Option.some (Jvm.ClassFile.FieldType.array (Jvm.ClassFile.FieldType.object "java/lang/Object")))) ∈ lw_all := lw_g (lw_at lw_m5 101 rfl) rfl
theorem q1343 : (Jvm.Cond.instanceMethod ({ cls := "java/util/ArrayList", name := "set", desc := "(ILjava/lang/Object;)Ljava/lang/Object;" } : Jvm.MethodName)) ∈ lw_all := lw_g (lw_at lw_m6 58 rfl) rfl
theorem q1344 : (Jvm.Cond.selects "java/util/ArrayList" ({ cls := "java/util/ArrayList", name := "set", desc := "(ILjava/lang/Object;)Ljava/lang/Object;" } : Jvm.MethodName) ({ cls := "java/util/ArrayList", name := "set", desc := "(ILjava/lang/Object;)Ljava/lang/Object;" } : Jvm.MethodName)) ∈ lw_all := lw_g (lw_at lw_m6 59 rfl) rfl
theorem q1345 : (Jvm.Cond.code ({ cls := "java/util/ArrayList", name := "set", desc := "(ILjava/lang/Object;)Ljava/lang/Object;" } : Jvm.MethodName) prog_43_method_23_code (4 : Nat) (Option.some (Jvm.ClassFile.FieldType.object "java/lang/Object"))) ∈ lw_all := lw_g (lw_at lw_m6 60 rfl) rfl
theorem q1508 : (Jvm.Cond.instanceMethod ({ cls := "java/util/ArrayList", name := "isEmpty", desc := "()Z" } : Jvm.MethodName)) ∈ lw_all := lw_g (lw_at lw_m6 223 rfl) rfl
theorem q1509 : (Jvm.Cond.selects "java/util/ArrayList" ({ cls := "java/util/ArrayList", name := "isEmpty", desc := "()Z" } : Jvm.MethodName) ({ cls := "java/util/ArrayList", name := "isEmpty", desc := "()Z" } : Jvm.MethodName)) ∈ lw_all := lw_g (lw_at lw_m6 224 rfl) rfl
theorem q1510 : (Jvm.Cond.code ({ cls := "java/util/ArrayList", name := "isEmpty", desc := "()Z" } : Jvm.MethodName) prog_43_method_9_code (1 : Nat) (Option.some Jvm.ClassFile.FieldType.boolean)) ∈ lw_all := lw_g (lw_at lw_m6 225 rfl) rfl
theorem q2207 : (Jvm.Cond.castable "java/util/ArrayList" "java/lang/Object") ∈ lw_tbl := lw_at lw_m9 202 rfl


set_option maxRecDepth 100000
/-! ScaleInspection -/
abbrev cX1_init : ByteArray := prog_1_method_3_code
def yX1_init : MethodName := ⟨RX1, "<init>", "()V"⟩
def dkwX1_init_2 : List UInt8 := [183, 0, 33, 181, 0, 36, 42, 5, 189, 0, 24, 181, 0, 40, 42, 16, 13, 189, 0, 44, 181, 0, 46, 177]
abbrev dktX1_init_2 : List UInt8 := dkwX1_init_2 ++ []
def dkwX1_init_1 : List UInt8 := [183, 0, 19, 181, 0, 20, 42, 187, 0, 24, 89, 183, 0, 26, 181, 0, 27, 42, 187, 0, 31, 89, 5]
abbrev dktX1_init_1 : List UInt8 := dkwX1_init_1 ++ dktX1_init_2
def dkwX1_init_0 : List UInt8 := [42, 183, 0, 1, 42, 17, 3, 32, 188, 8, 181, 0, 9, 42, 16, 254, 181, 0, 13, 42, 187, 0, 17, 89]
abbrev dktX1_init_0 : List UInt8 := dkwX1_init_0 ++ dktX1_init_1
theorem dksX1_init_0 : cX1_init.data.toList.drop 0 = dktX1_init_0 := by decide +kernel
theorem dksX1_init_1 : cX1_init.data.toList.drop 24 = dktX1_init_1 := dk_seg dksX1_init_0 24 rfl rfl
theorem dksX1_init_2 : cX1_init.data.toList.drop 47 = dktX1_init_2 := dk_seg dksX1_init_1 23 rfl rfl
theorem dX1_init_0 : decode cX1_init 0 = .ok (.aload_n 0, 1) := dk_42 (dk_at dksX1_init_0 0 rfl rfl)
theorem dX1_init_1 : decode cX1_init 1 = .ok (.invokespecial 1, 3) := dk_183 0 1 (dk_at dksX1_init_0 1 rfl rfl)
theorem dX1_init_4 : decode cX1_init 4 = .ok (.aload_n 0, 1) := dk_42 (dk_at dksX1_init_0 4 rfl rfl)
theorem dX1_init_5 : decode cX1_init 5 = .ok (.sipush 800, 3) := dk_17 3 32 (dk_at dksX1_init_0 5 rfl rfl)
theorem dX1_init_8 : decode cX1_init 8 = .ok (.newarray .byte, 2) := dk_188_8 (dk_at dksX1_init_0 8 rfl rfl)
theorem dX1_init_10 : decode cX1_init 10 = .ok (.putfield 9, 3) := dk_181 0 9 (dk_at dksX1_init_0 10 rfl rfl)
theorem dX1_init_13 : decode cX1_init 13 = .ok (.aload_n 0, 1) := dk_42 (dk_at dksX1_init_0 13 rfl rfl)
theorem dX1_init_14 : decode cX1_init 14 = .ok (.bipush (-2), 2) := dk_16 254 (dk_at dksX1_init_0 14 rfl rfl)
theorem dX1_init_16 : decode cX1_init 16 = .ok (.putfield 13, 3) := dk_181 0 13 (dk_at dksX1_init_0 16 rfl rfl)
theorem dX1_init_19 : decode cX1_init 19 = .ok (.aload_n 0, 1) := dk_42 (dk_at dksX1_init_0 19 rfl rfl)
theorem dX1_init_20 : decode cX1_init 20 = .ok (.new 17, 3) := dk_187 0 17 (dk_at dksX1_init_0 20 rfl rfl)
theorem dX1_init_23 : decode cX1_init 23 = .ok (.dup, 1) := dk_89 (dk_at dksX1_init_0 23 rfl rfl)
theorem dX1_init_24 : decode cX1_init 24 = .ok (.invokespecial 19, 3) := dk_183 0 19 (dk_at dksX1_init_1 0 rfl rfl)
theorem dX1_init_27 : decode cX1_init 27 = .ok (.putfield 20, 3) := dk_181 0 20 (dk_at dksX1_init_1 3 rfl rfl)
theorem dX1_init_30 : decode cX1_init 30 = .ok (.aload_n 0, 1) := dk_42 (dk_at dksX1_init_1 6 rfl rfl)
theorem dX1_init_31 : decode cX1_init 31 = .ok (.new 24, 3) := dk_187 0 24 (dk_at dksX1_init_1 7 rfl rfl)
theorem dX1_init_34 : decode cX1_init 34 = .ok (.dup, 1) := dk_89 (dk_at dksX1_init_1 10 rfl rfl)
theorem dX1_init_35 : decode cX1_init 35 = .ok (.invokespecial 26, 3) := dk_183 0 26 (dk_at dksX1_init_1 11 rfl rfl)
theorem dX1_init_38 : decode cX1_init 38 = .ok (.putfield 27, 3) := dk_181 0 27 (dk_at dksX1_init_1 14 rfl rfl)
theorem dX1_init_41 : decode cX1_init 41 = .ok (.aload_n 0, 1) := dk_42 (dk_at dksX1_init_1 17 rfl rfl)
theorem dX1_init_42 : decode cX1_init 42 = .ok (.new 31, 3) := dk_187 0 31 (dk_at dksX1_init_1 18 rfl rfl)
theorem dX1_init_45 : decode cX1_init 45 = .ok (.dup, 1) := dk_89 (dk_at dksX1_init_1 21 rfl rfl)
theorem dX1_init_46 : decode cX1_init 46 = .ok (.iconst 2, 1) := dk_5 (dk_at dksX1_init_1 22 rfl rfl)
theorem dX1_init_47 : decode cX1_init 47 = .ok (.invokespecial 33, 3) := dk_183 0 33 (dk_at dksX1_init_2 0 rfl rfl)
theorem dX1_init_50 : decode cX1_init 50 = .ok (.putfield 36, 3) := dk_181 0 36 (dk_at dksX1_init_2 3 rfl rfl)
theorem dX1_init_53 : decode cX1_init 53 = .ok (.aload_n 0, 1) := dk_42 (dk_at dksX1_init_2 6 rfl rfl)
theorem dX1_init_54 : decode cX1_init 54 = .ok (.iconst 2, 1) := dk_5 (dk_at dksX1_init_2 7 rfl rfl)
theorem dX1_init_55 : decode cX1_init 55 = .ok (.anewarray 24, 3) := dk_189 0 24 (dk_at dksX1_init_2 8 rfl rfl)
theorem dX1_init_58 : decode cX1_init 58 = .ok (.putfield 40, 3) := dk_181 0 40 (dk_at dksX1_init_2 11 rfl rfl)
theorem dX1_init_61 : decode cX1_init 61 = .ok (.aload_n 0, 1) := dk_42 (dk_at dksX1_init_2 14 rfl rfl)
theorem dX1_init_62 : decode cX1_init 62 = .ok (.bipush 13, 2) := dk_16 13 (dk_at dksX1_init_2 15 rfl rfl)
theorem dX1_init_64 : decode cX1_init 64 = .ok (.anewarray 44, 3) := dk_189 0 44 (dk_at dksX1_init_2 17 rfl rfl)
theorem dX1_init_67 : decode cX1_init 67 = .ok (.putfield 46, 3) := dk_181 0 46 (dk_at dksX1_init_2 20 rfl rfl)
theorem dX1_init_70 : decode cX1_init 70 = .ok (.return_, 1) := dk_177 (dk_at dksX1_init_2 23 rfl rfl)
abbrev cX1_append : ByteArray := prog_1_method_4_code
def yX1_append : MethodName := ⟨RX1, "append", "(IIIII)I"⟩
def dkwX1_append_2 : List UInt8 := [172]
abbrev dktX1_append_2 : List UInt8 := dkwX1_append_2 ++ []
def dkwX1_append_1 : List UInt8 := [182, 0, 53, 42, 29, 182, 0, 53, 42, 21, 4, 182, 0, 53, 42, 21, 5, 182, 0, 53, 42, 180, 0, 50]
abbrev dktX1_append_1 : List UInt8 := dkwX1_append_1 ++ dktX1_append_2
def dkwX1_append_0 : List UInt8 := [42, 180, 0, 50, 16, 20, 96, 17, 3, 32, 164, 0, 6, 16, 253, 172, 42, 27, 182, 0, 53, 42, 28]
abbrev dktX1_append_0 : List UInt8 := dkwX1_append_0 ++ dktX1_append_1
theorem dksX1_append_0 : cX1_append.data.toList.drop 0 = dktX1_append_0 := by decide +kernel
theorem dksX1_append_1 : cX1_append.data.toList.drop 23 = dktX1_append_1 := dk_seg dksX1_append_0 23 rfl rfl
theorem dksX1_append_2 : cX1_append.data.toList.drop 47 = dktX1_append_2 := dk_seg dksX1_append_1 24 rfl rfl
theorem dX1_append_0 : decode cX1_append 0 = .ok (.aload_n 0, 1) := dk_42 (dk_at dksX1_append_0 0 rfl rfl)
theorem dX1_append_1 : decode cX1_append 1 = .ok (.getfield 50, 3) := dk_180 0 50 (dk_at dksX1_append_0 1 rfl rfl)
theorem dX1_append_4 : decode cX1_append 4 = .ok (.bipush 20, 2) := dk_16 20 (dk_at dksX1_append_0 4 rfl rfl)
theorem dX1_append_6 : decode cX1_append 6 = .ok (.iadd, 1) := dk_96 (dk_at dksX1_append_0 6 rfl rfl)
theorem dX1_append_7 : decode cX1_append 7 = .ok (.sipush 800, 3) := dk_17 3 32 (dk_at dksX1_append_0 7 rfl rfl)
theorem dX1_append_10 : decode cX1_append 10 = .ok (.if_icmp .le 6, 3) := dk_164 0 6 (dk_at dksX1_append_0 10 rfl rfl)
theorem dX1_append_13 : decode cX1_append 13 = .ok (.bipush (-3), 2) := dk_16 253 (dk_at dksX1_append_0 13 rfl rfl)
theorem dX1_append_15 : decode cX1_append 15 = .ok (.ireturn, 1) := dk_172 (dk_at dksX1_append_0 15 rfl rfl)
theorem dX1_append_16 : decode cX1_append 16 = .ok (.aload_n 0, 1) := dk_42 (dk_at dksX1_append_0 16 rfl rfl)
theorem dX1_append_17 : decode cX1_append 17 = .ok (.iload_n 1, 1) := dk_27 (dk_at dksX1_append_0 17 rfl rfl)
theorem dX1_append_18 : decode cX1_append 18 = .ok (.invokevirtual 53, 3) := dk_182 0 53 (dk_at dksX1_append_0 18 rfl rfl)
theorem dX1_append_21 : decode cX1_append 21 = .ok (.aload_n 0, 1) := dk_42 (dk_at dksX1_append_0 21 rfl rfl)
theorem dX1_append_22 : decode cX1_append 22 = .ok (.iload_n 2, 1) := dk_28 (dk_at dksX1_append_0 22 rfl rfl)
theorem dX1_append_23 : decode cX1_append 23 = .ok (.invokevirtual 53, 3) := dk_182 0 53 (dk_at dksX1_append_1 0 rfl rfl)
theorem dX1_append_26 : decode cX1_append 26 = .ok (.aload_n 0, 1) := dk_42 (dk_at dksX1_append_1 3 rfl rfl)
theorem dX1_append_27 : decode cX1_append 27 = .ok (.iload_n 3, 1) := dk_29 (dk_at dksX1_append_1 4 rfl rfl)
theorem dX1_append_28 : decode cX1_append 28 = .ok (.invokevirtual 53, 3) := dk_182 0 53 (dk_at dksX1_append_1 5 rfl rfl)
theorem dX1_append_31 : decode cX1_append 31 = .ok (.aload_n 0, 1) := dk_42 (dk_at dksX1_append_1 8 rfl rfl)
theorem dX1_append_32 : decode cX1_append 32 = .ok (.iload 4, 2) := dk_21 4 (dk_at dksX1_append_1 9 rfl rfl)
theorem dX1_append_34 : decode cX1_append 34 = .ok (.invokevirtual 53, 3) := dk_182 0 53 (dk_at dksX1_append_1 11 rfl rfl)
theorem dX1_append_37 : decode cX1_append 37 = .ok (.aload_n 0, 1) := dk_42 (dk_at dksX1_append_1 14 rfl rfl)
theorem dX1_append_38 : decode cX1_append 38 = .ok (.iload 5, 2) := dk_21 5 (dk_at dksX1_append_1 15 rfl rfl)
theorem dX1_append_40 : decode cX1_append 40 = .ok (.invokevirtual 53, 3) := dk_182 0 53 (dk_at dksX1_append_1 17 rfl rfl)
theorem dX1_append_43 : decode cX1_append 43 = .ok (.aload_n 0, 1) := dk_42 (dk_at dksX1_append_1 20 rfl rfl)
theorem dX1_append_44 : decode cX1_append 44 = .ok (.getfield 50, 3) := dk_180 0 50 (dk_at dksX1_append_1 21 rfl rfl)
theorem dX1_append_47 : decode cX1_append 47 = .ok (.ireturn, 1) := dk_172 (dk_at dksX1_append_2 0 rfl rfl)
abbrev cX1_appendWord : ByteArray := prog_1_method_5_code
def yX1_appendWord : MethodName := ⟨RX1, "appendWord", "(I)V"⟩
def dkwX1_appendWord_1 : List UInt8 := [122, 145, 84, 132, 2, 248, 167, 255, 229, 177]
abbrev dktX1_appendWord_1 : List UInt8 := dkwX1_appendWord_1 ++ []
def dkwX1_appendWord_0 : List UInt8 := [16, 24, 61, 28, 155, 0, 29, 42, 180, 0, 9, 42, 89, 180, 0, 50, 90, 4, 96, 181, 0, 50, 27, 28]
abbrev dktX1_appendWord_0 : List UInt8 := dkwX1_appendWord_0 ++ dktX1_appendWord_1
theorem dksX1_appendWord_0 : cX1_appendWord.data.toList.drop 0 = dktX1_appendWord_0 := by decide +kernel
theorem dksX1_appendWord_1 : cX1_appendWord.data.toList.drop 24 = dktX1_appendWord_1 := dk_seg dksX1_appendWord_0 24 rfl rfl
theorem dX1_appendWord_0 : decode cX1_appendWord 0 = .ok (.bipush 24, 2) := dk_16 24 (dk_at dksX1_appendWord_0 0 rfl rfl)
theorem dX1_appendWord_2 : decode cX1_appendWord 2 = .ok (.istore_n 2, 1) := dk_61 (dk_at dksX1_appendWord_0 2 rfl rfl)
theorem dX1_appendWord_3 : decode cX1_appendWord 3 = .ok (.iload_n 2, 1) := dk_28 (dk_at dksX1_appendWord_0 3 rfl rfl)
theorem dX1_appendWord_4 : decode cX1_appendWord 4 = .ok (.ifCond .lt 29, 3) := dk_155 0 29 (dk_at dksX1_appendWord_0 4 rfl rfl)
theorem dX1_appendWord_7 : decode cX1_appendWord 7 = .ok (.aload_n 0, 1) := dk_42 (dk_at dksX1_appendWord_0 7 rfl rfl)
theorem dX1_appendWord_8 : decode cX1_appendWord 8 = .ok (.getfield 9, 3) := dk_180 0 9 (dk_at dksX1_appendWord_0 8 rfl rfl)
theorem dX1_appendWord_11 : decode cX1_appendWord 11 = .ok (.aload_n 0, 1) := dk_42 (dk_at dksX1_appendWord_0 11 rfl rfl)
theorem dX1_appendWord_12 : decode cX1_appendWord 12 = .ok (.dup, 1) := dk_89 (dk_at dksX1_appendWord_0 12 rfl rfl)
theorem dX1_appendWord_13 : decode cX1_appendWord 13 = .ok (.getfield 50, 3) := dk_180 0 50 (dk_at dksX1_appendWord_0 13 rfl rfl)
theorem dX1_appendWord_16 : decode cX1_appendWord 16 = .ok (.dup_x1, 1) := dk_90 (dk_at dksX1_appendWord_0 16 rfl rfl)
theorem dX1_appendWord_17 : decode cX1_appendWord 17 = .ok (.iconst 1, 1) := dk_4 (dk_at dksX1_appendWord_0 17 rfl rfl)
theorem dX1_appendWord_18 : decode cX1_appendWord 18 = .ok (.iadd, 1) := dk_96 (dk_at dksX1_appendWord_0 18 rfl rfl)
theorem dX1_appendWord_19 : decode cX1_appendWord 19 = .ok (.putfield 50, 3) := dk_181 0 50 (dk_at dksX1_appendWord_0 19 rfl rfl)
theorem dX1_appendWord_22 : decode cX1_appendWord 22 = .ok (.iload_n 1, 1) := dk_27 (dk_at dksX1_appendWord_0 22 rfl rfl)
theorem dX1_appendWord_23 : decode cX1_appendWord 23 = .ok (.iload_n 2, 1) := dk_28 (dk_at dksX1_appendWord_0 23 rfl rfl)
theorem dX1_appendWord_24 : decode cX1_appendWord 24 = .ok (.ishr, 1) := dk_122 (dk_at dksX1_appendWord_1 0 rfl rfl)
theorem dX1_appendWord_25 : decode cX1_appendWord 25 = .ok (.i2b, 1) := dk_145 (dk_at dksX1_appendWord_1 1 rfl rfl)
theorem dX1_appendWord_26 : decode cX1_appendWord 26 = .ok (.bastore, 1) := dk_84 (dk_at dksX1_appendWord_1 2 rfl rfl)
theorem dX1_appendWord_27 : decode cX1_appendWord 27 = .ok (.iinc 2 (-8), 3) := dk_132 2 248 (dk_at dksX1_appendWord_1 3 rfl rfl)
theorem dX1_appendWord_30 : decode cX1_appendWord 30 = .ok (.goto (-27), 3) := dk_167 255 229 (dk_at dksX1_appendWord_1 6 rfl rfl)
theorem dX1_appendWord_33 : decode cX1_appendWord 33 = .ok (.return_, 1) := dk_177 (dk_at dksX1_appendWord_1 9 rfl rfl)
abbrev cX1_parse : ByteArray := prog_1_method_6_code
def yX1_parse : MethodName := ⟨RX1, "parse", "(I)I"⟩
def dkwX1_parse_7 : List UInt8 := [132, 2, 1, 167, 255, 241, 3, 172]
abbrev dktX1_parse_7 : List UInt8 := dkwX1_parse_7 ++ []
def dkwX1_parse_6 : List UInt8 := [167, 255, 191, 42, 180, 0, 36, 182, 0, 106, 3, 61, 28, 5, 162, 0, 16, 42, 180, 0, 40, 28, 1, 83]
abbrev dktX1_parse_6 : List UInt8 := dkwX1_parse_6 ++ dktX1_parse_7
def dkwX1_parse_5 : List UInt8 := [180, 0, 77, 28, 182, 0, 85, 192, 0, 89, 180, 0, 94, 184, 0, 98, 182, 0, 102, 87, 132, 2, 1]
abbrev dktX1_parse_5 : List UInt8 := dkwX1_parse_5 ++ dktX1_parse_6
def dkwX1_parse_4 : List UInt8 := [180, 0, 84, 42, 180, 0, 20, 180, 0, 77, 28, 182, 0, 85, 192, 0, 89, 180, 0, 91, 42, 180, 0, 20]
abbrev dktX1_parse_4 : List UInt8 := dkwX1_parse_4 ++ dktX1_parse_5
def dkwX1_parse_3 : List UInt8 := [181, 0, 27, 3, 61, 28, 42, 180, 0, 20, 180, 0, 77, 182, 0, 80, 162, 0, 57, 42, 180, 0, 27]
abbrev dktX1_parse_3 : List UInt8 := dkwX1_parse_3 ++ dktX1_parse_4
def dkwX1_parse_2 : List UInt8 := [181, 0, 13, 44, 180, 0, 74, 172, 42, 16, 254, 181, 0, 13, 42, 187, 0, 24, 89, 183, 0, 26]
abbrev dktX1_parse_2 : List UInt8 := dkwX1_parse_2 ++ dktX1_parse_3
def dkwX1_parse_1 : List UInt8 := [187, 0, 60, 89, 42, 27, 183, 0, 62, 182, 0, 65, 181, 0, 20, 167, 0, 17, 77, 42, 44, 180, 0, 71]
abbrev dktX1_parse_1 : List UInt8 := dkwX1_parse_1 ++ dktX1_parse_2
def dkwX1_parse_0 : List UInt8 := [27, 133, 9, 42, 180, 0, 50, 133, 184, 0, 56, 154, 0, 5, 2, 172, 42, 3, 181, 0, 50, 42]
abbrev dktX1_parse_0 : List UInt8 := dkwX1_parse_0 ++ dktX1_parse_1
theorem dksX1_parse_0 : cX1_parse.data.toList.drop 0 = dktX1_parse_0 := by decide +kernel
theorem dksX1_parse_1 : cX1_parse.data.toList.drop 22 = dktX1_parse_1 := dk_seg dksX1_parse_0 22 rfl rfl
theorem dksX1_parse_2 : cX1_parse.data.toList.drop 46 = dktX1_parse_2 := dk_seg dksX1_parse_1 24 rfl rfl
theorem dksX1_parse_3 : cX1_parse.data.toList.drop 68 = dktX1_parse_3 := dk_seg dksX1_parse_2 22 rfl rfl
theorem dksX1_parse_4 : cX1_parse.data.toList.drop 91 = dktX1_parse_4 := dk_seg dksX1_parse_3 23 rfl rfl
theorem dksX1_parse_5 : cX1_parse.data.toList.drop 115 = dktX1_parse_5 := dk_seg dksX1_parse_4 24 rfl rfl
theorem dksX1_parse_6 : cX1_parse.data.toList.drop 138 = dktX1_parse_6 := dk_seg dksX1_parse_5 23 rfl rfl
theorem dksX1_parse_7 : cX1_parse.data.toList.drop 162 = dktX1_parse_7 := dk_seg dksX1_parse_6 24 rfl rfl
theorem dX1_parse_0 : decode cX1_parse 0 = .ok (.iload_n 1, 1) := dk_27 (dk_at dksX1_parse_0 0 rfl rfl)
theorem dX1_parse_1 : decode cX1_parse 1 = .ok (.i2l, 1) := dk_133 (dk_at dksX1_parse_0 1 rfl rfl)
theorem dX1_parse_2 : decode cX1_parse 2 = .ok (.lconst 0, 1) := dk_9 (dk_at dksX1_parse_0 2 rfl rfl)
theorem dX1_parse_3 : decode cX1_parse 3 = .ok (.aload_n 0, 1) := dk_42 (dk_at dksX1_parse_0 3 rfl rfl)
theorem dX1_parse_4 : decode cX1_parse 4 = .ok (.getfield 50, 3) := dk_180 0 50 (dk_at dksX1_parse_0 4 rfl rfl)
theorem dX1_parse_7 : decode cX1_parse 7 = .ok (.i2l, 1) := dk_133 (dk_at dksX1_parse_0 7 rfl rfl)
theorem dX1_parse_8 : decode cX1_parse 8 = .ok (.invokestatic 56, 3) := dk_184 0 56 (dk_at dksX1_parse_0 8 rfl rfl)
theorem dX1_parse_11 : decode cX1_parse 11 = .ok (.ifCond .ne 5, 3) := dk_154 0 5 (dk_at dksX1_parse_0 11 rfl rfl)
theorem dX1_parse_14 : decode cX1_parse 14 = .ok (.iconst (-1), 1) := dk_2 (dk_at dksX1_parse_0 14 rfl rfl)
theorem dX1_parse_15 : decode cX1_parse 15 = .ok (.ireturn, 1) := dk_172 (dk_at dksX1_parse_0 15 rfl rfl)
theorem dX1_parse_16 : decode cX1_parse 16 = .ok (.aload_n 0, 1) := dk_42 (dk_at dksX1_parse_0 16 rfl rfl)
theorem dX1_parse_17 : decode cX1_parse 17 = .ok (.iconst 0, 1) := dk_3 (dk_at dksX1_parse_0 17 rfl rfl)
theorem dX1_parse_18 : decode cX1_parse 18 = .ok (.putfield 50, 3) := dk_181 0 50 (dk_at dksX1_parse_0 18 rfl rfl)
theorem dX1_parse_21 : decode cX1_parse 21 = .ok (.aload_n 0, 1) := dk_42 (dk_at dksX1_parse_0 21 rfl rfl)
theorem dX1_parse_22 : decode cX1_parse 22 = .ok (.new 60, 3) := dk_187 0 60 (dk_at dksX1_parse_1 0 rfl rfl)
theorem dX1_parse_25 : decode cX1_parse 25 = .ok (.dup, 1) := dk_89 (dk_at dksX1_parse_1 3 rfl rfl)
theorem dX1_parse_26 : decode cX1_parse 26 = .ok (.aload_n 0, 1) := dk_42 (dk_at dksX1_parse_1 4 rfl rfl)
theorem dX1_parse_27 : decode cX1_parse 27 = .ok (.iload_n 1, 1) := dk_27 (dk_at dksX1_parse_1 5 rfl rfl)
theorem dX1_parse_28 : decode cX1_parse 28 = .ok (.invokespecial 62, 3) := dk_183 0 62 (dk_at dksX1_parse_1 6 rfl rfl)
theorem dX1_parse_31 : decode cX1_parse 31 = .ok (.invokevirtual 65, 3) := dk_182 0 65 (dk_at dksX1_parse_1 9 rfl rfl)
theorem dX1_parse_34 : decode cX1_parse 34 = .ok (.putfield 20, 3) := dk_181 0 20 (dk_at dksX1_parse_1 12 rfl rfl)
theorem dX1_parse_37 : decode cX1_parse 37 = .ok (.goto 17, 3) := dk_167 0 17 (dk_at dksX1_parse_1 15 rfl rfl)
theorem dX1_parse_40 : decode cX1_parse 40 = .ok (.astore_n 2, 1) := dk_77 (dk_at dksX1_parse_1 18 rfl rfl)
theorem dX1_parse_41 : decode cX1_parse 41 = .ok (.aload_n 0, 1) := dk_42 (dk_at dksX1_parse_1 19 rfl rfl)
theorem dX1_parse_42 : decode cX1_parse 42 = .ok (.aload_n 2, 1) := dk_44 (dk_at dksX1_parse_1 20 rfl rfl)
theorem dX1_parse_43 : decode cX1_parse 43 = .ok (.getfield 71, 3) := dk_180 0 71 (dk_at dksX1_parse_1 21 rfl rfl)
theorem dX1_parse_46 : decode cX1_parse 46 = .ok (.putfield 13, 3) := dk_181 0 13 (dk_at dksX1_parse_2 0 rfl rfl)
theorem dX1_parse_49 : decode cX1_parse 49 = .ok (.aload_n 2, 1) := dk_44 (dk_at dksX1_parse_2 3 rfl rfl)
theorem dX1_parse_50 : decode cX1_parse 50 = .ok (.getfield 74, 3) := dk_180 0 74 (dk_at dksX1_parse_2 4 rfl rfl)
theorem dX1_parse_53 : decode cX1_parse 53 = .ok (.ireturn, 1) := dk_172 (dk_at dksX1_parse_2 7 rfl rfl)
theorem dX1_parse_54 : decode cX1_parse 54 = .ok (.aload_n 0, 1) := dk_42 (dk_at dksX1_parse_2 8 rfl rfl)
theorem dX1_parse_55 : decode cX1_parse 55 = .ok (.bipush (-2), 2) := dk_16 254 (dk_at dksX1_parse_2 9 rfl rfl)
theorem dX1_parse_57 : decode cX1_parse 57 = .ok (.putfield 13, 3) := dk_181 0 13 (dk_at dksX1_parse_2 11 rfl rfl)
theorem dX1_parse_60 : decode cX1_parse 60 = .ok (.aload_n 0, 1) := dk_42 (dk_at dksX1_parse_2 14 rfl rfl)
theorem dX1_parse_61 : decode cX1_parse 61 = .ok (.new 24, 3) := dk_187 0 24 (dk_at dksX1_parse_2 15 rfl rfl)
theorem dX1_parse_64 : decode cX1_parse 64 = .ok (.dup, 1) := dk_89 (dk_at dksX1_parse_2 18 rfl rfl)
theorem dX1_parse_65 : decode cX1_parse 65 = .ok (.invokespecial 26, 3) := dk_183 0 26 (dk_at dksX1_parse_2 19 rfl rfl)
theorem dX1_parse_68 : decode cX1_parse 68 = .ok (.putfield 27, 3) := dk_181 0 27 (dk_at dksX1_parse_3 0 rfl rfl)
theorem dX1_parse_71 : decode cX1_parse 71 = .ok (.iconst 0, 1) := dk_3 (dk_at dksX1_parse_3 3 rfl rfl)
theorem dX1_parse_72 : decode cX1_parse 72 = .ok (.istore_n 2, 1) := dk_61 (dk_at dksX1_parse_3 4 rfl rfl)
theorem dX1_parse_73 : decode cX1_parse 73 = .ok (.iload_n 2, 1) := dk_28 (dk_at dksX1_parse_3 5 rfl rfl)
theorem dX1_parse_74 : decode cX1_parse 74 = .ok (.aload_n 0, 1) := dk_42 (dk_at dksX1_parse_3 6 rfl rfl)
theorem dX1_parse_75 : decode cX1_parse 75 = .ok (.getfield 20, 3) := dk_180 0 20 (dk_at dksX1_parse_3 7 rfl rfl)
theorem dX1_parse_78 : decode cX1_parse 78 = .ok (.getfield 77, 3) := dk_180 0 77 (dk_at dksX1_parse_3 10 rfl rfl)
theorem dX1_parse_81 : decode cX1_parse 81 = .ok (.invokevirtual 80, 3) := dk_182 0 80 (dk_at dksX1_parse_3 13 rfl rfl)
theorem dX1_parse_84 : decode cX1_parse 84 = .ok (.if_icmp .ge 57, 3) := dk_162 0 57 (dk_at dksX1_parse_3 16 rfl rfl)
theorem dX1_parse_87 : decode cX1_parse 87 = .ok (.aload_n 0, 1) := dk_42 (dk_at dksX1_parse_3 19 rfl rfl)
theorem dX1_parse_88 : decode cX1_parse 88 = .ok (.getfield 27, 3) := dk_180 0 27 (dk_at dksX1_parse_3 20 rfl rfl)
theorem dX1_parse_91 : decode cX1_parse 91 = .ok (.getfield 84, 3) := dk_180 0 84 (dk_at dksX1_parse_4 0 rfl rfl)
theorem dX1_parse_94 : decode cX1_parse 94 = .ok (.aload_n 0, 1) := dk_42 (dk_at dksX1_parse_4 3 rfl rfl)
theorem dX1_parse_95 : decode cX1_parse 95 = .ok (.getfield 20, 3) := dk_180 0 20 (dk_at dksX1_parse_4 4 rfl rfl)
theorem dX1_parse_98 : decode cX1_parse 98 = .ok (.getfield 77, 3) := dk_180 0 77 (dk_at dksX1_parse_4 7 rfl rfl)
theorem dX1_parse_101 : decode cX1_parse 101 = .ok (.iload_n 2, 1) := dk_28 (dk_at dksX1_parse_4 10 rfl rfl)
theorem dX1_parse_102 : decode cX1_parse 102 = .ok (.invokevirtual 85, 3) := dk_182 0 85 (dk_at dksX1_parse_4 11 rfl rfl)
theorem dX1_parse_105 : decode cX1_parse 105 = .ok (.checkcast 89, 3) := dk_192 0 89 (dk_at dksX1_parse_4 14 rfl rfl)
theorem dX1_parse_108 : decode cX1_parse 108 = .ok (.getfield 91, 3) := dk_180 0 91 (dk_at dksX1_parse_4 17 rfl rfl)
theorem dX1_parse_111 : decode cX1_parse 111 = .ok (.aload_n 0, 1) := dk_42 (dk_at dksX1_parse_4 20 rfl rfl)
theorem dX1_parse_112 : decode cX1_parse 112 = .ok (.getfield 20, 3) := dk_180 0 20 (dk_at dksX1_parse_4 21 rfl rfl)
theorem dX1_parse_115 : decode cX1_parse 115 = .ok (.getfield 77, 3) := dk_180 0 77 (dk_at dksX1_parse_5 0 rfl rfl)
theorem dX1_parse_118 : decode cX1_parse 118 = .ok (.iload_n 2, 1) := dk_28 (dk_at dksX1_parse_5 3 rfl rfl)
theorem dX1_parse_119 : decode cX1_parse 119 = .ok (.invokevirtual 85, 3) := dk_182 0 85 (dk_at dksX1_parse_5 4 rfl rfl)
theorem dX1_parse_122 : decode cX1_parse 122 = .ok (.checkcast 89, 3) := dk_192 0 89 (dk_at dksX1_parse_5 7 rfl rfl)
theorem dX1_parse_125 : decode cX1_parse 125 = .ok (.getfield 94, 3) := dk_180 0 94 (dk_at dksX1_parse_5 10 rfl rfl)
theorem dX1_parse_128 : decode cX1_parse 128 = .ok (.invokestatic 98, 3) := dk_184 0 98 (dk_at dksX1_parse_5 13 rfl rfl)
theorem dX1_parse_131 : decode cX1_parse 131 = .ok (.invokevirtual 102, 3) := dk_182 0 102 (dk_at dksX1_parse_5 16 rfl rfl)
theorem dX1_parse_134 : decode cX1_parse 134 = .ok (.pop, 1) := dk_87 (dk_at dksX1_parse_5 19 rfl rfl)
theorem dX1_parse_135 : decode cX1_parse 135 = .ok (.iinc 2 1, 3) := dk_132 2 1 (dk_at dksX1_parse_5 20 rfl rfl)
theorem dX1_parse_138 : decode cX1_parse 138 = .ok (.goto (-65), 3) := dk_167 255 191 (dk_at dksX1_parse_6 0 rfl rfl)
theorem dX1_parse_141 : decode cX1_parse 141 = .ok (.aload_n 0, 1) := dk_42 (dk_at dksX1_parse_6 3 rfl rfl)
theorem dX1_parse_142 : decode cX1_parse 142 = .ok (.getfield 36, 3) := dk_180 0 36 (dk_at dksX1_parse_6 4 rfl rfl)
theorem dX1_parse_145 : decode cX1_parse 145 = .ok (.invokevirtual 106, 3) := dk_182 0 106 (dk_at dksX1_parse_6 7 rfl rfl)
theorem dX1_parse_148 : decode cX1_parse 148 = .ok (.iconst 0, 1) := dk_3 (dk_at dksX1_parse_6 10 rfl rfl)
theorem dX1_parse_149 : decode cX1_parse 149 = .ok (.istore_n 2, 1) := dk_61 (dk_at dksX1_parse_6 11 rfl rfl)
theorem dX1_parse_150 : decode cX1_parse 150 = .ok (.iload_n 2, 1) := dk_28 (dk_at dksX1_parse_6 12 rfl rfl)
theorem dX1_parse_151 : decode cX1_parse 151 = .ok (.iconst 2, 1) := dk_5 (dk_at dksX1_parse_6 13 rfl rfl)
theorem dX1_parse_152 : decode cX1_parse 152 = .ok (.if_icmp .ge 16, 3) := dk_162 0 16 (dk_at dksX1_parse_6 14 rfl rfl)
theorem dX1_parse_155 : decode cX1_parse 155 = .ok (.aload_n 0, 1) := dk_42 (dk_at dksX1_parse_6 17 rfl rfl)
theorem dX1_parse_156 : decode cX1_parse 156 = .ok (.getfield 40, 3) := dk_180 0 40 (dk_at dksX1_parse_6 18 rfl rfl)
theorem dX1_parse_159 : decode cX1_parse 159 = .ok (.iload_n 2, 1) := dk_28 (dk_at dksX1_parse_6 21 rfl rfl)
theorem dX1_parse_160 : decode cX1_parse 160 = .ok (.aconst_null, 1) := dk_1 (dk_at dksX1_parse_6 22 rfl rfl)
theorem dX1_parse_161 : decode cX1_parse 161 = .ok (.aastore, 1) := dk_83 (dk_at dksX1_parse_6 23 rfl rfl)
theorem dX1_parse_162 : decode cX1_parse 162 = .ok (.iinc 2 1, 3) := dk_132 2 1 (dk_at dksX1_parse_7 0 rfl rfl)
theorem dX1_parse_165 : decode cX1_parse 165 = .ok (.goto (-15), 3) := dk_167 255 241 (dk_at dksX1_parse_7 3 rfl rfl)
theorem dX1_parse_168 : decode cX1_parse 168 = .ok (.iconst 0, 1) := dk_3 (dk_at dksX1_parse_7 6 rfl rfl)
theorem dX1_parse_169 : decode cX1_parse 169 = .ok (.ireturn, 1) := dk_172 (dk_at dksX1_parse_7 7 rfl rfl)
abbrev cX1_inRange : ByteArray := prog_1_method_1_code
def yX1_inRange : MethodName := ⟨RX1, "inRange", "(JJJ)Z"⟩
def dkwX1_inRange_0 : List UInt8 := [30, 32, 148, 155, 0, 14, 30, 22, 4, 148, 157, 0, 7, 4, 167, 0, 4, 3, 172]
abbrev dktX1_inRange_0 : List UInt8 := dkwX1_inRange_0 ++ []
theorem dksX1_inRange_0 : cX1_inRange.data.toList.drop 0 = dktX1_inRange_0 := by decide +kernel
theorem dX1_inRange_0 : decode cX1_inRange 0 = .ok (.lload_n 0, 1) := dk_30 (dk_at dksX1_inRange_0 0 rfl rfl)
theorem dX1_inRange_1 : decode cX1_inRange 1 = .ok (.lload_n 2, 1) := dk_32 (dk_at dksX1_inRange_0 1 rfl rfl)
theorem dX1_inRange_2 : decode cX1_inRange 2 = .ok (.lcmp, 1) := dk_148 (dk_at dksX1_inRange_0 2 rfl rfl)
theorem dX1_inRange_3 : decode cX1_inRange 3 = .ok (.ifCond .lt 14, 3) := dk_155 0 14 (dk_at dksX1_inRange_0 3 rfl rfl)
theorem dX1_inRange_6 : decode cX1_inRange 6 = .ok (.lload_n 0, 1) := dk_30 (dk_at dksX1_inRange_0 6 rfl rfl)
theorem dX1_inRange_7 : decode cX1_inRange 7 = .ok (.lload 4, 2) := dk_22 4 (dk_at dksX1_inRange_0 7 rfl rfl)
theorem dX1_inRange_9 : decode cX1_inRange 9 = .ok (.lcmp, 1) := dk_148 (dk_at dksX1_inRange_0 9 rfl rfl)
theorem dX1_inRange_10 : decode cX1_inRange 10 = .ok (.ifCond .gt 7, 3) := dk_157 0 7 (dk_at dksX1_inRange_0 10 rfl rfl)
theorem dX1_inRange_13 : decode cX1_inRange 13 = .ok (.iconst 1, 1) := dk_4 (dk_at dksX1_inRange_0 13 rfl rfl)
theorem dX1_inRange_14 : decode cX1_inRange 14 = .ok (.goto 4, 3) := dk_167 0 4 (dk_at dksX1_inRange_0 14 rfl rfl)
theorem dX1_inRange_17 : decode cX1_inRange 17 = .ok (.iconst 0, 1) := dk_3 (dk_at dksX1_inRange_0 17 rfl rfl)
theorem dX1_inRange_18 : decode cX1_inRange 18 = .ok (.ireturn, 1) := dk_172 (dk_at dksX1_inRange_0 18 rfl rfl)
abbrev cX1_isIn : ByteArray := prog_1_method_2_code
def yX1_isIn : MethodName := ⟨RX1, "isIn", "(II)Z"⟩
def dkwX1_isIn_0 : List UInt8 := [26, 27, 122, 4, 126, 4, 160, 0, 7, 4, 167, 0, 4, 3, 172]
abbrev dktX1_isIn_0 : List UInt8 := dkwX1_isIn_0 ++ []
theorem dksX1_isIn_0 : cX1_isIn.data.toList.drop 0 = dktX1_isIn_0 := by decide +kernel
theorem dX1_isIn_0 : decode cX1_isIn 0 = .ok (.iload_n 0, 1) := dk_26 (dk_at dksX1_isIn_0 0 rfl rfl)
theorem dX1_isIn_1 : decode cX1_isIn 1 = .ok (.iload_n 1, 1) := dk_27 (dk_at dksX1_isIn_0 1 rfl rfl)
theorem dX1_isIn_2 : decode cX1_isIn 2 = .ok (.ishr, 1) := dk_122 (dk_at dksX1_isIn_0 2 rfl rfl)
theorem dX1_isIn_3 : decode cX1_isIn 3 = .ok (.iconst 1, 1) := dk_4 (dk_at dksX1_isIn_0 3 rfl rfl)
theorem dX1_isIn_4 : decode cX1_isIn 4 = .ok (.iand, 1) := dk_126 (dk_at dksX1_isIn_0 4 rfl rfl)
theorem dX1_isIn_5 : decode cX1_isIn 5 = .ok (.iconst 1, 1) := dk_4 (dk_at dksX1_isIn_0 5 rfl rfl)
theorem dX1_isIn_6 : decode cX1_isIn 6 = .ok (.if_icmp .ne 7, 3) := dk_160 0 7 (dk_at dksX1_isIn_0 6 rfl rfl)
theorem dX1_isIn_9 : decode cX1_isIn 9 = .ok (.iconst 1, 1) := dk_4 (dk_at dksX1_isIn_0 9 rfl rfl)
theorem dX1_isIn_10 : decode cX1_isIn 10 = .ok (.goto 4, 3) := dk_167 0 4 (dk_at dksX1_isIn_0 10 rfl rfl)
theorem dX1_isIn_13 : decode cX1_isIn 13 = .ok (.iconst 0, 1) := dk_3 (dk_at dksX1_isIn_0 13 rfl rfl)
theorem dX1_isIn_14 : decode cX1_isIn 14 = .ok (.ireturn, 1) := dk_172 (dk_at dksX1_isIn_0 14 rfl rfl)
abbrev cX1_atFirst : ByteArray := prog_1_method_7_code
def yX1_atFirst : MethodName := ⟨RX1, "atFirst", "(IZ)LScaleInspection$Hypotheses;"⟩
def dkwX1_atFirst_0 : List UInt8 := [4, 26, 120, 4, 100, 61, 187, 0, 109, 89, 28, 28, 27, 3, 183, 0, 111, 176]
abbrev dktX1_atFirst_0 : List UInt8 := dkwX1_atFirst_0 ++ []
theorem dksX1_atFirst_0 : cX1_atFirst.data.toList.drop 0 = dktX1_atFirst_0 := by decide +kernel
theorem dX1_atFirst_0 : decode cX1_atFirst 0 = .ok (.iconst 1, 1) := dk_4 (dk_at dksX1_atFirst_0 0 rfl rfl)
theorem dX1_atFirst_1 : decode cX1_atFirst 1 = .ok (.iload_n 0, 1) := dk_26 (dk_at dksX1_atFirst_0 1 rfl rfl)
theorem dX1_atFirst_2 : decode cX1_atFirst 2 = .ok (.ishl, 1) := dk_120 (dk_at dksX1_atFirst_0 2 rfl rfl)
theorem dX1_atFirst_3 : decode cX1_atFirst 3 = .ok (.iconst 1, 1) := dk_4 (dk_at dksX1_atFirst_0 3 rfl rfl)
theorem dX1_atFirst_4 : decode cX1_atFirst 4 = .ok (.isub, 1) := dk_100 (dk_at dksX1_atFirst_0 4 rfl rfl)
theorem dX1_atFirst_5 : decode cX1_atFirst 5 = .ok (.istore_n 2, 1) := dk_61 (dk_at dksX1_atFirst_0 5 rfl rfl)
theorem dX1_atFirst_6 : decode cX1_atFirst 6 = .ok (.new 109, 3) := dk_187 0 109 (dk_at dksX1_atFirst_0 6 rfl rfl)
theorem dX1_atFirst_9 : decode cX1_atFirst 9 = .ok (.dup, 1) := dk_89 (dk_at dksX1_atFirst_0 9 rfl rfl)
theorem dX1_atFirst_10 : decode cX1_atFirst 10 = .ok (.iload_n 2, 1) := dk_28 (dk_at dksX1_atFirst_0 10 rfl rfl)
theorem dX1_atFirst_11 : decode cX1_atFirst 11 = .ok (.iload_n 2, 1) := dk_28 (dk_at dksX1_atFirst_0 11 rfl rfl)
theorem dX1_atFirst_12 : decode cX1_atFirst 12 = .ok (.iload_n 1, 1) := dk_27 (dk_at dksX1_atFirst_0 12 rfl rfl)
theorem dX1_atFirst_13 : decode cX1_atFirst 13 = .ok (.iconst 0, 1) := dk_3 (dk_at dksX1_atFirst_0 13 rfl rfl)
theorem dX1_atFirst_14 : decode cX1_atFirst 14 = .ok (.invokespecial 111, 3) := dk_183 0 111 (dk_at dksX1_atFirst_0 14 rfl rfl)
theorem dX1_atFirst_17 : decode cX1_atFirst 17 = .ok (.areturn, 1) := dk_176 (dk_at dksX1_atFirst_0 17 rfl rfl)
abbrev cX1_errorPosition : ByteArray := prog_1_method_8_code
def yX1_errorPosition : MethodName := ⟨RX1, "errorPosition", "()I"⟩
theorem dX1_errorPosition_0 : decode cX1_errorPosition 0 = .ok (.aload_n 0, 1) := by decide +kernel
theorem dX1_errorPosition_1 : decode cX1_errorPosition 1 = .ok (.getfield 13, 3) := by decide +kernel
theorem dX1_errorPosition_4 : decode cX1_errorPosition 4 = .ok (.ireturn, 1) := by decide +kernel
abbrev cX1_traderCount : ByteArray := prog_1_method_9_code
def yX1_traderCount : MethodName := ⟨RX1, "traderCount", "()I"⟩
def dkwX1_traderCount_0 : List UInt8 := [42, 180, 0, 20, 180, 0, 114, 172]
abbrev dktX1_traderCount_0 : List UInt8 := dkwX1_traderCount_0 ++ []
theorem dksX1_traderCount_0 : cX1_traderCount.data.toList.drop 0 = dktX1_traderCount_0 := by decide +kernel
theorem dX1_traderCount_0 : decode cX1_traderCount 0 = .ok (.aload_n 0, 1) := dk_42 (dk_at dksX1_traderCount_0 0 rfl rfl)
theorem dX1_traderCount_1 : decode cX1_traderCount 1 = .ok (.getfield 20, 3) := dk_180 0 20 (dk_at dksX1_traderCount_0 1 rfl rfl)
theorem dX1_traderCount_4 : decode cX1_traderCount 4 = .ok (.getfield 114, 3) := dk_180 0 114 (dk_at dksX1_traderCount_0 4 rfl rfl)
theorem dX1_traderCount_7 : decode cX1_traderCount 7 = .ok (.ireturn, 1) := dk_172 (dk_at dksX1_traderCount_0 7 rfl rfl)
abbrev cX1_scaleCount : ByteArray := prog_1_method_10_code
def yX1_scaleCount : MethodName := ⟨RX1, "scaleCount", "()I"⟩
def dkwX1_scaleCount_0 : List UInt8 := [42, 180, 0, 20, 180, 0, 117, 182, 0, 80, 172]
abbrev dktX1_scaleCount_0 : List UInt8 := dkwX1_scaleCount_0 ++ []
theorem dksX1_scaleCount_0 : cX1_scaleCount.data.toList.drop 0 = dktX1_scaleCount_0 := by decide +kernel
theorem dX1_scaleCount_0 : decode cX1_scaleCount 0 = .ok (.aload_n 0, 1) := dk_42 (dk_at dksX1_scaleCount_0 0 rfl rfl)
theorem dX1_scaleCount_1 : decode cX1_scaleCount 1 = .ok (.getfield 20, 3) := dk_180 0 20 (dk_at dksX1_scaleCount_0 1 rfl rfl)
theorem dX1_scaleCount_4 : decode cX1_scaleCount 4 = .ok (.getfield 117, 3) := dk_180 0 117 (dk_at dksX1_scaleCount_0 4 rfl rfl)
theorem dX1_scaleCount_7 : decode cX1_scaleCount 7 = .ok (.invokevirtual 80, 3) := dk_182 0 80 (dk_at dksX1_scaleCount_0 7 rfl rfl)
theorem dX1_scaleCount_10 : decode cX1_scaleCount 10 = .ok (.ireturn, 1) := dk_172 (dk_at dksX1_scaleCount_0 10 rfl rfl)
abbrev cX1_massCount : ByteArray := prog_1_method_11_code
def yX1_massCount : MethodName := ⟨RX1, "massCount", "()I"⟩
def dkwX1_massCount_0 : List UInt8 := [42, 180, 0, 20, 180, 0, 120, 172]
abbrev dktX1_massCount_0 : List UInt8 := dkwX1_massCount_0 ++ []
theorem dksX1_massCount_0 : cX1_massCount.data.toList.drop 0 = dktX1_massCount_0 := by decide +kernel
theorem dX1_massCount_0 : decode cX1_massCount 0 = .ok (.aload_n 0, 1) := dk_42 (dk_at dksX1_massCount_0 0 rfl rfl)
theorem dX1_massCount_1 : decode cX1_massCount 1 = .ok (.getfield 20, 3) := dk_180 0 20 (dk_at dksX1_massCount_0 1 rfl rfl)
theorem dX1_massCount_4 : decode cX1_massCount 4 = .ok (.getfield 120, 3) := dk_180 0 120 (dk_at dksX1_massCount_0 4 rfl rfl)
theorem dX1_massCount_7 : decode cX1_massCount 7 = .ok (.ireturn, 1) := dk_172 (dk_at dksX1_massCount_0 7 rfl rfl)
abbrev cX1_setCount : ByteArray := prog_1_method_12_code
def yX1_setCount : MethodName := ⟨RX1, "setCount", "()I"⟩
def dkwX1_setCount_0 : List UInt8 := [42, 180, 0, 20, 180, 0, 77, 182, 0, 80, 172]
abbrev dktX1_setCount_0 : List UInt8 := dkwX1_setCount_0 ++ []
theorem dksX1_setCount_0 : cX1_setCount.data.toList.drop 0 = dktX1_setCount_0 := by decide +kernel
theorem dX1_setCount_0 : decode cX1_setCount 0 = .ok (.aload_n 0, 1) := dk_42 (dk_at dksX1_setCount_0 0 rfl rfl)
theorem dX1_setCount_1 : decode cX1_setCount 1 = .ok (.getfield 20, 3) := dk_180 0 20 (dk_at dksX1_setCount_0 1 rfl rfl)
theorem dX1_setCount_4 : decode cX1_setCount 4 = .ok (.getfield 77, 3) := dk_180 0 77 (dk_at dksX1_setCount_0 4 rfl rfl)
theorem dX1_setCount_7 : decode cX1_setCount 7 = .ok (.invokevirtual 80, 3) := dk_182 0 80 (dk_at dksX1_setCount_0 7 rfl rfl)
theorem dX1_setCount_10 : decode cX1_setCount 10 = .ok (.ireturn, 1) := dk_172 (dk_at dksX1_setCount_0 10 rfl rfl)
abbrev cX1_trader : ByteArray := prog_1_method_15_code
def yX1_trader : MethodName := ⟨RX1, "trader", "(I)I"⟩
def dkwX1_trader_1 : List UInt8 := [180, 0, 131, 167, 0, 4, 2, 172]
abbrev dktX1_trader_1 : List UInt8 := dkwX1_trader_1 ++ []
def dkwX1_trader_0 : List UInt8 := [42, 27, 182, 0, 125, 153, 0, 23, 42, 180, 0, 20, 180, 0, 117, 27, 182, 0, 85, 192, 0, 129]
abbrev dktX1_trader_0 : List UInt8 := dkwX1_trader_0 ++ dktX1_trader_1
theorem dksX1_trader_0 : cX1_trader.data.toList.drop 0 = dktX1_trader_0 := by decide +kernel
theorem dksX1_trader_1 : cX1_trader.data.toList.drop 22 = dktX1_trader_1 := dk_seg dksX1_trader_0 22 rfl rfl
theorem dX1_trader_0 : decode cX1_trader 0 = .ok (.aload_n 0, 1) := dk_42 (dk_at dksX1_trader_0 0 rfl rfl)
theorem dX1_trader_1 : decode cX1_trader 1 = .ok (.iload_n 1, 1) := dk_27 (dk_at dksX1_trader_0 1 rfl rfl)
theorem dX1_trader_2 : decode cX1_trader 2 = .ok (.invokevirtual 125, 3) := dk_182 0 125 (dk_at dksX1_trader_0 2 rfl rfl)
theorem dX1_trader_5 : decode cX1_trader 5 = .ok (.ifCond .eq 23, 3) := dk_153 0 23 (dk_at dksX1_trader_0 5 rfl rfl)
theorem dX1_trader_8 : decode cX1_trader 8 = .ok (.aload_n 0, 1) := dk_42 (dk_at dksX1_trader_0 8 rfl rfl)
theorem dX1_trader_9 : decode cX1_trader 9 = .ok (.getfield 20, 3) := dk_180 0 20 (dk_at dksX1_trader_0 9 rfl rfl)
theorem dX1_trader_12 : decode cX1_trader 12 = .ok (.getfield 117, 3) := dk_180 0 117 (dk_at dksX1_trader_0 12 rfl rfl)
theorem dX1_trader_15 : decode cX1_trader 15 = .ok (.iload_n 1, 1) := dk_27 (dk_at dksX1_trader_0 15 rfl rfl)
theorem dX1_trader_16 : decode cX1_trader 16 = .ok (.invokevirtual 85, 3) := dk_182 0 85 (dk_at dksX1_trader_0 16 rfl rfl)
theorem dX1_trader_19 : decode cX1_trader 19 = .ok (.checkcast 129, 3) := dk_192 0 129 (dk_at dksX1_trader_0 19 rfl rfl)
theorem dX1_trader_22 : decode cX1_trader 22 = .ok (.getfield 131, 3) := dk_180 0 131 (dk_at dksX1_trader_1 0 rfl rfl)
theorem dX1_trader_25 : decode cX1_trader 25 = .ok (.goto 4, 3) := dk_167 0 4 (dk_at dksX1_trader_1 3 rfl rfl)
theorem dX1_trader_28 : decode cX1_trader 28 = .ok (.iconst (-1), 1) := dk_2 (dk_at dksX1_trader_1 6 rfl rfl)
theorem dX1_trader_29 : decode cX1_trader 29 = .ok (.ireturn, 1) := dk_172 (dk_at dksX1_trader_1 7 rfl rfl)
abbrev cX1_isScale : ByteArray := prog_1_method_13_code
def yX1_isScale : MethodName := ⟨RX1, "isScale", "(I)Z"⟩
def dkwX1_isScale_0 : List UInt8 := [27, 133, 9, 42, 180, 0, 20, 180, 0, 117, 182, 0, 80, 4, 100, 133, 184, 0, 56, 172]
abbrev dktX1_isScale_0 : List UInt8 := dkwX1_isScale_0 ++ []
theorem dksX1_isScale_0 : cX1_isScale.data.toList.drop 0 = dktX1_isScale_0 := by decide +kernel
theorem dX1_isScale_0 : decode cX1_isScale 0 = .ok (.iload_n 1, 1) := dk_27 (dk_at dksX1_isScale_0 0 rfl rfl)
theorem dX1_isScale_1 : decode cX1_isScale 1 = .ok (.i2l, 1) := dk_133 (dk_at dksX1_isScale_0 1 rfl rfl)
theorem dX1_isScale_2 : decode cX1_isScale 2 = .ok (.lconst 0, 1) := dk_9 (dk_at dksX1_isScale_0 2 rfl rfl)
theorem dX1_isScale_3 : decode cX1_isScale 3 = .ok (.aload_n 0, 1) := dk_42 (dk_at dksX1_isScale_0 3 rfl rfl)
theorem dX1_isScale_4 : decode cX1_isScale 4 = .ok (.getfield 20, 3) := dk_180 0 20 (dk_at dksX1_isScale_0 4 rfl rfl)
theorem dX1_isScale_7 : decode cX1_isScale 7 = .ok (.getfield 117, 3) := dk_180 0 117 (dk_at dksX1_isScale_0 7 rfl rfl)
theorem dX1_isScale_10 : decode cX1_isScale 10 = .ok (.invokevirtual 80, 3) := dk_182 0 80 (dk_at dksX1_isScale_0 10 rfl rfl)
theorem dX1_isScale_13 : decode cX1_isScale 13 = .ok (.iconst 1, 1) := dk_4 (dk_at dksX1_isScale_0 13 rfl rfl)
theorem dX1_isScale_14 : decode cX1_isScale 14 = .ok (.isub, 1) := dk_100 (dk_at dksX1_isScale_0 14 rfl rfl)
theorem dX1_isScale_15 : decode cX1_isScale 15 = .ok (.i2l, 1) := dk_133 (dk_at dksX1_isScale_0 15 rfl rfl)
theorem dX1_isScale_16 : decode cX1_isScale 16 = .ok (.invokestatic 56, 3) := dk_184 0 56 (dk_at dksX1_isScale_0 16 rfl rfl)
theorem dX1_isScale_19 : decode cX1_isScale 19 = .ok (.ireturn, 1) := dk_172 (dk_at dksX1_isScale_0 19 rfl rfl)
abbrev cX1_capacity : ByteArray := prog_1_method_16_code
def yX1_capacity : MethodName := ⟨RX1, "capacity", "(I)I"⟩
def dkwX1_capacity_1 : List UInt8 := [180, 0, 134, 167, 0, 4, 2, 172]
abbrev dktX1_capacity_1 : List UInt8 := dkwX1_capacity_1 ++ []
def dkwX1_capacity_0 : List UInt8 := [42, 27, 182, 0, 125, 153, 0, 23, 42, 180, 0, 20, 180, 0, 117, 27, 182, 0, 85, 192, 0, 129]
abbrev dktX1_capacity_0 : List UInt8 := dkwX1_capacity_0 ++ dktX1_capacity_1
theorem dksX1_capacity_0 : cX1_capacity.data.toList.drop 0 = dktX1_capacity_0 := by decide +kernel
theorem dksX1_capacity_1 : cX1_capacity.data.toList.drop 22 = dktX1_capacity_1 := dk_seg dksX1_capacity_0 22 rfl rfl
theorem dX1_capacity_0 : decode cX1_capacity 0 = .ok (.aload_n 0, 1) := dk_42 (dk_at dksX1_capacity_0 0 rfl rfl)
theorem dX1_capacity_1 : decode cX1_capacity 1 = .ok (.iload_n 1, 1) := dk_27 (dk_at dksX1_capacity_0 1 rfl rfl)
theorem dX1_capacity_2 : decode cX1_capacity 2 = .ok (.invokevirtual 125, 3) := dk_182 0 125 (dk_at dksX1_capacity_0 2 rfl rfl)
theorem dX1_capacity_5 : decode cX1_capacity 5 = .ok (.ifCond .eq 23, 3) := dk_153 0 23 (dk_at dksX1_capacity_0 5 rfl rfl)
theorem dX1_capacity_8 : decode cX1_capacity 8 = .ok (.aload_n 0, 1) := dk_42 (dk_at dksX1_capacity_0 8 rfl rfl)
theorem dX1_capacity_9 : decode cX1_capacity 9 = .ok (.getfield 20, 3) := dk_180 0 20 (dk_at dksX1_capacity_0 9 rfl rfl)
theorem dX1_capacity_12 : decode cX1_capacity 12 = .ok (.getfield 117, 3) := dk_180 0 117 (dk_at dksX1_capacity_0 12 rfl rfl)
theorem dX1_capacity_15 : decode cX1_capacity 15 = .ok (.iload_n 1, 1) := dk_27 (dk_at dksX1_capacity_0 15 rfl rfl)
theorem dX1_capacity_16 : decode cX1_capacity 16 = .ok (.invokevirtual 85, 3) := dk_182 0 85 (dk_at dksX1_capacity_0 16 rfl rfl)
theorem dX1_capacity_19 : decode cX1_capacity 19 = .ok (.checkcast 129, 3) := dk_192 0 129 (dk_at dksX1_capacity_0 19 rfl rfl)
theorem dX1_capacity_22 : decode cX1_capacity 22 = .ok (.getfield 134, 3) := dk_180 0 134 (dk_at dksX1_capacity_1 0 rfl rfl)
theorem dX1_capacity_25 : decode cX1_capacity 25 = .ok (.goto 4, 3) := dk_167 0 4 (dk_at dksX1_capacity_1 3 rfl rfl)
theorem dX1_capacity_28 : decode cX1_capacity 28 = .ok (.iconst (-1), 1) := dk_2 (dk_at dksX1_capacity_1 6 rfl rfl)
theorem dX1_capacity_29 : decode cX1_capacity 29 = .ok (.ireturn, 1) := dk_172 (dk_at dksX1_capacity_1 7 rfl rfl)
abbrev cX1_massValue : ByteArray := prog_1_method_18_code
def yX1_massValue : MethodName := ⟨RX1, "massValue", "(I)I"⟩
def dkwX1_massValue_1 : List UInt8 := [180, 0, 147, 27, 46, 167, 0, 4, 2, 172]
abbrev dktX1_massValue_1 : List UInt8 := dkwX1_massValue_1 ++ []
def dkwX1_massValue_0 : List UInt8 := [27, 133, 9, 42, 180, 0, 20, 180, 0, 120, 4, 100, 133, 184, 0, 56, 153, 0, 15, 42, 180, 0, 20]
abbrev dktX1_massValue_0 : List UInt8 := dkwX1_massValue_0 ++ dktX1_massValue_1
theorem dksX1_massValue_0 : cX1_massValue.data.toList.drop 0 = dktX1_massValue_0 := by decide +kernel
theorem dksX1_massValue_1 : cX1_massValue.data.toList.drop 23 = dktX1_massValue_1 := dk_seg dksX1_massValue_0 23 rfl rfl
theorem dX1_massValue_0 : decode cX1_massValue 0 = .ok (.iload_n 1, 1) := dk_27 (dk_at dksX1_massValue_0 0 rfl rfl)
theorem dX1_massValue_1 : decode cX1_massValue 1 = .ok (.i2l, 1) := dk_133 (dk_at dksX1_massValue_0 1 rfl rfl)
theorem dX1_massValue_2 : decode cX1_massValue 2 = .ok (.lconst 0, 1) := dk_9 (dk_at dksX1_massValue_0 2 rfl rfl)
theorem dX1_massValue_3 : decode cX1_massValue 3 = .ok (.aload_n 0, 1) := dk_42 (dk_at dksX1_massValue_0 3 rfl rfl)
theorem dX1_massValue_4 : decode cX1_massValue 4 = .ok (.getfield 20, 3) := dk_180 0 20 (dk_at dksX1_massValue_0 4 rfl rfl)
theorem dX1_massValue_7 : decode cX1_massValue 7 = .ok (.getfield 120, 3) := dk_180 0 120 (dk_at dksX1_massValue_0 7 rfl rfl)
theorem dX1_massValue_10 : decode cX1_massValue 10 = .ok (.iconst 1, 1) := dk_4 (dk_at dksX1_massValue_0 10 rfl rfl)
theorem dX1_massValue_11 : decode cX1_massValue 11 = .ok (.isub, 1) := dk_100 (dk_at dksX1_massValue_0 11 rfl rfl)
theorem dX1_massValue_12 : decode cX1_massValue 12 = .ok (.i2l, 1) := dk_133 (dk_at dksX1_massValue_0 12 rfl rfl)
theorem dX1_massValue_13 : decode cX1_massValue 13 = .ok (.invokestatic 56, 3) := dk_184 0 56 (dk_at dksX1_massValue_0 13 rfl rfl)
theorem dX1_massValue_16 : decode cX1_massValue 16 = .ok (.ifCond .eq 15, 3) := dk_153 0 15 (dk_at dksX1_massValue_0 16 rfl rfl)
theorem dX1_massValue_19 : decode cX1_massValue 19 = .ok (.aload_n 0, 1) := dk_42 (dk_at dksX1_massValue_0 19 rfl rfl)
theorem dX1_massValue_20 : decode cX1_massValue 20 = .ok (.getfield 20, 3) := dk_180 0 20 (dk_at dksX1_massValue_0 20 rfl rfl)
theorem dX1_massValue_23 : decode cX1_massValue 23 = .ok (.getfield 147, 3) := dk_180 0 147 (dk_at dksX1_massValue_1 0 rfl rfl)
theorem dX1_massValue_26 : decode cX1_massValue 26 = .ok (.iload_n 1, 1) := dk_27 (dk_at dksX1_massValue_1 3 rfl rfl)
theorem dX1_massValue_27 : decode cX1_massValue 27 = .ok (.iaload, 1) := dk_46 (dk_at dksX1_massValue_1 4 rfl rfl)
theorem dX1_massValue_28 : decode cX1_massValue 28 = .ok (.goto 4, 3) := dk_167 0 4 (dk_at dksX1_massValue_1 5 rfl rfl)
theorem dX1_massValue_31 : decode cX1_massValue 31 = .ok (.iconst (-1), 1) := dk_2 (dk_at dksX1_massValue_1 8 rfl rfl)
theorem dX1_massValue_32 : decode cX1_massValue 32 = .ok (.ireturn, 1) := dk_172 (dk_at dksX1_massValue_1 9 rfl rfl)
abbrev cX1_fewestMasses : ByteArray := prog_1_method_19_code
def yX1_fewestMasses : MethodName := ⟨RX1, "fewestMasses", "(I)I"⟩
def dkwX1_fewestMasses_2 : List UInt8 := [184, 0, 154, 162, 0, 5, 29, 61, 132, 3, 1, 167, 255, 209, 28, 172]
abbrev dktX1_fewestMasses_2 : List UInt8 := dkwX1_fewestMasses_2 ++ []
def dkwX1_fewestMasses_1 : List UInt8 := [42, 180, 0, 20, 29, 182, 0, 151, 27, 160, 0, 22, 28, 16, 254, 159, 0, 14, 29, 184, 0, 154, 28]
abbrev dktX1_fewestMasses_1 : List UInt8 := dkwX1_fewestMasses_1 ++ dktX1_fewestMasses_2
def dkwX1_fewestMasses_0 : List UInt8 := [27, 156, 0, 5, 2, 172, 16, 254, 61, 3, 62, 29, 4, 42, 180, 0, 20, 180, 0, 120, 120, 162, 0, 40]
abbrev dktX1_fewestMasses_0 : List UInt8 := dkwX1_fewestMasses_0 ++ dktX1_fewestMasses_1
theorem dksX1_fewestMasses_0 : cX1_fewestMasses.data.toList.drop 0 = dktX1_fewestMasses_0 := by decide +kernel
theorem dksX1_fewestMasses_1 : cX1_fewestMasses.data.toList.drop 24 = dktX1_fewestMasses_1 := dk_seg dksX1_fewestMasses_0 24 rfl rfl
theorem dksX1_fewestMasses_2 : cX1_fewestMasses.data.toList.drop 47 = dktX1_fewestMasses_2 := dk_seg dksX1_fewestMasses_1 23 rfl rfl
theorem dX1_fewestMasses_0 : decode cX1_fewestMasses 0 = .ok (.iload_n 1, 1) := dk_27 (dk_at dksX1_fewestMasses_0 0 rfl rfl)
theorem dX1_fewestMasses_1 : decode cX1_fewestMasses 1 = .ok (.ifCond .ge 5, 3) := dk_156 0 5 (dk_at dksX1_fewestMasses_0 1 rfl rfl)
theorem dX1_fewestMasses_4 : decode cX1_fewestMasses 4 = .ok (.iconst (-1), 1) := dk_2 (dk_at dksX1_fewestMasses_0 4 rfl rfl)
theorem dX1_fewestMasses_5 : decode cX1_fewestMasses 5 = .ok (.ireturn, 1) := dk_172 (dk_at dksX1_fewestMasses_0 5 rfl rfl)
theorem dX1_fewestMasses_6 : decode cX1_fewestMasses 6 = .ok (.bipush (-2), 2) := dk_16 254 (dk_at dksX1_fewestMasses_0 6 rfl rfl)
theorem dX1_fewestMasses_8 : decode cX1_fewestMasses 8 = .ok (.istore_n 2, 1) := dk_61 (dk_at dksX1_fewestMasses_0 8 rfl rfl)
theorem dX1_fewestMasses_9 : decode cX1_fewestMasses 9 = .ok (.iconst 0, 1) := dk_3 (dk_at dksX1_fewestMasses_0 9 rfl rfl)
theorem dX1_fewestMasses_10 : decode cX1_fewestMasses 10 = .ok (.istore_n 3, 1) := dk_62 (dk_at dksX1_fewestMasses_0 10 rfl rfl)
theorem dX1_fewestMasses_11 : decode cX1_fewestMasses 11 = .ok (.iload_n 3, 1) := dk_29 (dk_at dksX1_fewestMasses_0 11 rfl rfl)
theorem dX1_fewestMasses_12 : decode cX1_fewestMasses 12 = .ok (.iconst 1, 1) := dk_4 (dk_at dksX1_fewestMasses_0 12 rfl rfl)
theorem dX1_fewestMasses_13 : decode cX1_fewestMasses 13 = .ok (.aload_n 0, 1) := dk_42 (dk_at dksX1_fewestMasses_0 13 rfl rfl)
theorem dX1_fewestMasses_14 : decode cX1_fewestMasses 14 = .ok (.getfield 20, 3) := dk_180 0 20 (dk_at dksX1_fewestMasses_0 14 rfl rfl)
theorem dX1_fewestMasses_17 : decode cX1_fewestMasses 17 = .ok (.getfield 120, 3) := dk_180 0 120 (dk_at dksX1_fewestMasses_0 17 rfl rfl)
theorem dX1_fewestMasses_20 : decode cX1_fewestMasses 20 = .ok (.ishl, 1) := dk_120 (dk_at dksX1_fewestMasses_0 20 rfl rfl)
theorem dX1_fewestMasses_21 : decode cX1_fewestMasses 21 = .ok (.if_icmp .ge 40, 3) := dk_162 0 40 (dk_at dksX1_fewestMasses_0 21 rfl rfl)
theorem dX1_fewestMasses_24 : decode cX1_fewestMasses 24 = .ok (.aload_n 0, 1) := dk_42 (dk_at dksX1_fewestMasses_1 0 rfl rfl)
theorem dX1_fewestMasses_25 : decode cX1_fewestMasses 25 = .ok (.getfield 20, 3) := dk_180 0 20 (dk_at dksX1_fewestMasses_1 1 rfl rfl)
theorem dX1_fewestMasses_28 : decode cX1_fewestMasses 28 = .ok (.iload_n 3, 1) := dk_29 (dk_at dksX1_fewestMasses_1 4 rfl rfl)
theorem dX1_fewestMasses_29 : decode cX1_fewestMasses 29 = .ok (.invokevirtual 151, 3) := dk_182 0 151 (dk_at dksX1_fewestMasses_1 5 rfl rfl)
theorem dX1_fewestMasses_32 : decode cX1_fewestMasses 32 = .ok (.iload_n 1, 1) := dk_27 (dk_at dksX1_fewestMasses_1 8 rfl rfl)
theorem dX1_fewestMasses_33 : decode cX1_fewestMasses 33 = .ok (.if_icmp .ne 22, 3) := dk_160 0 22 (dk_at dksX1_fewestMasses_1 9 rfl rfl)
theorem dX1_fewestMasses_36 : decode cX1_fewestMasses 36 = .ok (.iload_n 2, 1) := dk_28 (dk_at dksX1_fewestMasses_1 12 rfl rfl)
theorem dX1_fewestMasses_37 : decode cX1_fewestMasses 37 = .ok (.bipush (-2), 2) := dk_16 254 (dk_at dksX1_fewestMasses_1 13 rfl rfl)
theorem dX1_fewestMasses_39 : decode cX1_fewestMasses 39 = .ok (.if_icmp .eq 14, 3) := dk_159 0 14 (dk_at dksX1_fewestMasses_1 15 rfl rfl)
theorem dX1_fewestMasses_42 : decode cX1_fewestMasses 42 = .ok (.iload_n 3, 1) := dk_29 (dk_at dksX1_fewestMasses_1 18 rfl rfl)
theorem dX1_fewestMasses_43 : decode cX1_fewestMasses 43 = .ok (.invokestatic 154, 3) := dk_184 0 154 (dk_at dksX1_fewestMasses_1 19 rfl rfl)
theorem dX1_fewestMasses_46 : decode cX1_fewestMasses 46 = .ok (.iload_n 2, 1) := dk_28 (dk_at dksX1_fewestMasses_1 22 rfl rfl)
theorem dX1_fewestMasses_47 : decode cX1_fewestMasses 47 = .ok (.invokestatic 154, 3) := dk_184 0 154 (dk_at dksX1_fewestMasses_2 0 rfl rfl)
theorem dX1_fewestMasses_50 : decode cX1_fewestMasses 50 = .ok (.if_icmp .ge 5, 3) := dk_162 0 5 (dk_at dksX1_fewestMasses_2 3 rfl rfl)
theorem dX1_fewestMasses_53 : decode cX1_fewestMasses 53 = .ok (.iload_n 3, 1) := dk_29 (dk_at dksX1_fewestMasses_2 6 rfl rfl)
theorem dX1_fewestMasses_54 : decode cX1_fewestMasses 54 = .ok (.istore_n 2, 1) := dk_61 (dk_at dksX1_fewestMasses_2 7 rfl rfl)
theorem dX1_fewestMasses_55 : decode cX1_fewestMasses 55 = .ok (.iinc 3 1, 3) := dk_132 3 1 (dk_at dksX1_fewestMasses_2 8 rfl rfl)
theorem dX1_fewestMasses_58 : decode cX1_fewestMasses 58 = .ok (.goto (-47), 3) := dk_167 255 209 (dk_at dksX1_fewestMasses_2 11 rfl rfl)
theorem dX1_fewestMasses_61 : decode cX1_fewestMasses 61 = .ok (.iload_n 2, 1) := dk_28 (dk_at dksX1_fewestMasses_2 14 rfl rfl)
theorem dX1_fewestMasses_62 : decode cX1_fewestMasses 62 = .ok (.ireturn, 1) := dk_172 (dk_at dksX1_fewestMasses_2 15 rfl rfl)
abbrev cX1_closestLoad : ByteArray := prog_1_method_20_code
def yX1_closestLoad : MethodName := ⟨RX1, "closestLoad", "(I)I"⟩
def dkwX1_closestLoad_2 : List UInt8 := [132, 3, 1, 167, 255, 215, 28, 172]
abbrev dktX1_closestLoad_2 : List UInt8 := dkwX1_closestLoad_2 ++ []
def dkwX1_closestLoad_1 : List UInt8 := [180, 0, 20, 29, 182, 0, 151, 27, 163, 0, 16, 28, 42, 180, 0, 20, 29, 182, 0, 151, 184, 0, 159, 61]
abbrev dktX1_closestLoad_1 : List UInt8 := dkwX1_closestLoad_1 ++ dktX1_closestLoad_2
def dkwX1_closestLoad_0 : List UInt8 := [27, 156, 0, 5, 2, 172, 3, 61, 3, 62, 29, 4, 42, 180, 0, 20, 180, 0, 120, 120, 162, 0, 34, 42]
abbrev dktX1_closestLoad_0 : List UInt8 := dkwX1_closestLoad_0 ++ dktX1_closestLoad_1
theorem dksX1_closestLoad_0 : cX1_closestLoad.data.toList.drop 0 = dktX1_closestLoad_0 := by decide +kernel
theorem dksX1_closestLoad_1 : cX1_closestLoad.data.toList.drop 24 = dktX1_closestLoad_1 := dk_seg dksX1_closestLoad_0 24 rfl rfl
theorem dksX1_closestLoad_2 : cX1_closestLoad.data.toList.drop 48 = dktX1_closestLoad_2 := dk_seg dksX1_closestLoad_1 24 rfl rfl
theorem dX1_closestLoad_0 : decode cX1_closestLoad 0 = .ok (.iload_n 1, 1) := dk_27 (dk_at dksX1_closestLoad_0 0 rfl rfl)
theorem dX1_closestLoad_1 : decode cX1_closestLoad 1 = .ok (.ifCond .ge 5, 3) := dk_156 0 5 (dk_at dksX1_closestLoad_0 1 rfl rfl)
theorem dX1_closestLoad_4 : decode cX1_closestLoad 4 = .ok (.iconst (-1), 1) := dk_2 (dk_at dksX1_closestLoad_0 4 rfl rfl)
theorem dX1_closestLoad_5 : decode cX1_closestLoad 5 = .ok (.ireturn, 1) := dk_172 (dk_at dksX1_closestLoad_0 5 rfl rfl)
theorem dX1_closestLoad_6 : decode cX1_closestLoad 6 = .ok (.iconst 0, 1) := dk_3 (dk_at dksX1_closestLoad_0 6 rfl rfl)
theorem dX1_closestLoad_7 : decode cX1_closestLoad 7 = .ok (.istore_n 2, 1) := dk_61 (dk_at dksX1_closestLoad_0 7 rfl rfl)
theorem dX1_closestLoad_8 : decode cX1_closestLoad 8 = .ok (.iconst 0, 1) := dk_3 (dk_at dksX1_closestLoad_0 8 rfl rfl)
theorem dX1_closestLoad_9 : decode cX1_closestLoad 9 = .ok (.istore_n 3, 1) := dk_62 (dk_at dksX1_closestLoad_0 9 rfl rfl)
theorem dX1_closestLoad_10 : decode cX1_closestLoad 10 = .ok (.iload_n 3, 1) := dk_29 (dk_at dksX1_closestLoad_0 10 rfl rfl)
theorem dX1_closestLoad_11 : decode cX1_closestLoad 11 = .ok (.iconst 1, 1) := dk_4 (dk_at dksX1_closestLoad_0 11 rfl rfl)
theorem dX1_closestLoad_12 : decode cX1_closestLoad 12 = .ok (.aload_n 0, 1) := dk_42 (dk_at dksX1_closestLoad_0 12 rfl rfl)
theorem dX1_closestLoad_13 : decode cX1_closestLoad 13 = .ok (.getfield 20, 3) := dk_180 0 20 (dk_at dksX1_closestLoad_0 13 rfl rfl)
theorem dX1_closestLoad_16 : decode cX1_closestLoad 16 = .ok (.getfield 120, 3) := dk_180 0 120 (dk_at dksX1_closestLoad_0 16 rfl rfl)
theorem dX1_closestLoad_19 : decode cX1_closestLoad 19 = .ok (.ishl, 1) := dk_120 (dk_at dksX1_closestLoad_0 19 rfl rfl)
theorem dX1_closestLoad_20 : decode cX1_closestLoad 20 = .ok (.if_icmp .ge 34, 3) := dk_162 0 34 (dk_at dksX1_closestLoad_0 20 rfl rfl)
theorem dX1_closestLoad_23 : decode cX1_closestLoad 23 = .ok (.aload_n 0, 1) := dk_42 (dk_at dksX1_closestLoad_0 23 rfl rfl)
theorem dX1_closestLoad_24 : decode cX1_closestLoad 24 = .ok (.getfield 20, 3) := dk_180 0 20 (dk_at dksX1_closestLoad_1 0 rfl rfl)
theorem dX1_closestLoad_27 : decode cX1_closestLoad 27 = .ok (.iload_n 3, 1) := dk_29 (dk_at dksX1_closestLoad_1 3 rfl rfl)
theorem dX1_closestLoad_28 : decode cX1_closestLoad 28 = .ok (.invokevirtual 151, 3) := dk_182 0 151 (dk_at dksX1_closestLoad_1 4 rfl rfl)
theorem dX1_closestLoad_31 : decode cX1_closestLoad 31 = .ok (.iload_n 1, 1) := dk_27 (dk_at dksX1_closestLoad_1 7 rfl rfl)
theorem dX1_closestLoad_32 : decode cX1_closestLoad 32 = .ok (.if_icmp .gt 16, 3) := dk_163 0 16 (dk_at dksX1_closestLoad_1 8 rfl rfl)
theorem dX1_closestLoad_35 : decode cX1_closestLoad 35 = .ok (.iload_n 2, 1) := dk_28 (dk_at dksX1_closestLoad_1 11 rfl rfl)
theorem dX1_closestLoad_36 : decode cX1_closestLoad 36 = .ok (.aload_n 0, 1) := dk_42 (dk_at dksX1_closestLoad_1 12 rfl rfl)
theorem dX1_closestLoad_37 : decode cX1_closestLoad 37 = .ok (.getfield 20, 3) := dk_180 0 20 (dk_at dksX1_closestLoad_1 13 rfl rfl)
theorem dX1_closestLoad_40 : decode cX1_closestLoad 40 = .ok (.iload_n 3, 1) := dk_29 (dk_at dksX1_closestLoad_1 16 rfl rfl)
theorem dX1_closestLoad_41 : decode cX1_closestLoad 41 = .ok (.invokevirtual 151, 3) := dk_182 0 151 (dk_at dksX1_closestLoad_1 17 rfl rfl)
theorem dX1_closestLoad_44 : decode cX1_closestLoad 44 = .ok (.invokestatic 159, 3) := dk_184 0 159 (dk_at dksX1_closestLoad_1 20 rfl rfl)
theorem dX1_closestLoad_47 : decode cX1_closestLoad 47 = .ok (.istore_n 2, 1) := dk_61 (dk_at dksX1_closestLoad_1 23 rfl rfl)
theorem dX1_closestLoad_48 : decode cX1_closestLoad 48 = .ok (.iinc 3 1, 3) := dk_132 3 1 (dk_at dksX1_closestLoad_2 0 rfl rfl)
theorem dX1_closestLoad_51 : decode cX1_closestLoad 51 = .ok (.goto (-41), 3) := dk_167 255 215 (dk_at dksX1_closestLoad_2 3 rfl rfl)
theorem dX1_closestLoad_54 : decode cX1_closestLoad 54 = .ok (.iload_n 2, 1) := dk_28 (dk_at dksX1_closestLoad_2 6 rfl rfl)
theorem dX1_closestLoad_55 : decode cX1_closestLoad 55 = .ok (.ireturn, 1) := dk_172 (dk_at dksX1_closestLoad_2 7 rfl rfl)
abbrev cX1_twoPans : ByteArray := prog_1_method_23_code
def yX1_twoPans : MethodName := ⟨RX1, "twoPans", "(I)I"⟩
def dkwX1_twoPans_2 : List UInt8 := [16, 254, 167, 0, 16, 42, 180, 0, 169, 17, 4, 0, 42, 180, 0, 172, 104, 96, 172]
abbrev dktX1_twoPans_2 : List UInt8 := dkwX1_twoPans_2 ++ []
def dkwX1_twoPans_1 : List UInt8 := [182, 0, 151, 163, 0, 11, 42, 3, 3, 3, 27, 182, 0, 175, 42, 180, 0, 169, 16, 254, 160, 0, 8]
abbrev dktX1_twoPans_1 : List UInt8 := dkwX1_twoPans_1 ++ dktX1_twoPans_2
def dkwX1_twoPans_0 : List UInt8 := [27, 156, 0, 5, 2, 172, 42, 16, 254, 181, 0, 169, 42, 3, 181, 0, 172, 27, 42, 180, 0, 20, 2]
abbrev dktX1_twoPans_0 : List UInt8 := dkwX1_twoPans_0 ++ dktX1_twoPans_1
theorem dksX1_twoPans_0 : cX1_twoPans.data.toList.drop 0 = dktX1_twoPans_0 := by decide +kernel
theorem dksX1_twoPans_1 : cX1_twoPans.data.toList.drop 23 = dktX1_twoPans_1 := dk_seg dksX1_twoPans_0 23 rfl rfl
theorem dksX1_twoPans_2 : cX1_twoPans.data.toList.drop 46 = dktX1_twoPans_2 := dk_seg dksX1_twoPans_1 23 rfl rfl
theorem dX1_twoPans_0 : decode cX1_twoPans 0 = .ok (.iload_n 1, 1) := dk_27 (dk_at dksX1_twoPans_0 0 rfl rfl)
theorem dX1_twoPans_1 : decode cX1_twoPans 1 = .ok (.ifCond .ge 5, 3) := dk_156 0 5 (dk_at dksX1_twoPans_0 1 rfl rfl)
theorem dX1_twoPans_4 : decode cX1_twoPans 4 = .ok (.iconst (-1), 1) := dk_2 (dk_at dksX1_twoPans_0 4 rfl rfl)
theorem dX1_twoPans_5 : decode cX1_twoPans 5 = .ok (.ireturn, 1) := dk_172 (dk_at dksX1_twoPans_0 5 rfl rfl)
theorem dX1_twoPans_6 : decode cX1_twoPans 6 = .ok (.aload_n 0, 1) := dk_42 (dk_at dksX1_twoPans_0 6 rfl rfl)
theorem dX1_twoPans_7 : decode cX1_twoPans 7 = .ok (.bipush (-2), 2) := dk_16 254 (dk_at dksX1_twoPans_0 7 rfl rfl)
theorem dX1_twoPans_9 : decode cX1_twoPans 9 = .ok (.putfield 169, 3) := dk_181 0 169 (dk_at dksX1_twoPans_0 9 rfl rfl)
theorem dX1_twoPans_12 : decode cX1_twoPans 12 = .ok (.aload_n 0, 1) := dk_42 (dk_at dksX1_twoPans_0 12 rfl rfl)
theorem dX1_twoPans_13 : decode cX1_twoPans 13 = .ok (.iconst 0, 1) := dk_3 (dk_at dksX1_twoPans_0 13 rfl rfl)
theorem dX1_twoPans_14 : decode cX1_twoPans 14 = .ok (.putfield 172, 3) := dk_181 0 172 (dk_at dksX1_twoPans_0 14 rfl rfl)
theorem dX1_twoPans_17 : decode cX1_twoPans 17 = .ok (.iload_n 1, 1) := dk_27 (dk_at dksX1_twoPans_0 17 rfl rfl)
theorem dX1_twoPans_18 : decode cX1_twoPans 18 = .ok (.aload_n 0, 1) := dk_42 (dk_at dksX1_twoPans_0 18 rfl rfl)
theorem dX1_twoPans_19 : decode cX1_twoPans 19 = .ok (.getfield 20, 3) := dk_180 0 20 (dk_at dksX1_twoPans_0 19 rfl rfl)
theorem dX1_twoPans_22 : decode cX1_twoPans 22 = .ok (.iconst (-1), 1) := dk_2 (dk_at dksX1_twoPans_0 22 rfl rfl)
theorem dX1_twoPans_23 : decode cX1_twoPans 23 = .ok (.invokevirtual 151, 3) := dk_182 0 151 (dk_at dksX1_twoPans_1 0 rfl rfl)
theorem dX1_twoPans_26 : decode cX1_twoPans 26 = .ok (.if_icmp .gt 11, 3) := dk_163 0 11 (dk_at dksX1_twoPans_1 3 rfl rfl)
theorem dX1_twoPans_29 : decode cX1_twoPans 29 = .ok (.aload_n 0, 1) := dk_42 (dk_at dksX1_twoPans_1 6 rfl rfl)
theorem dX1_twoPans_30 : decode cX1_twoPans 30 = .ok (.iconst 0, 1) := dk_3 (dk_at dksX1_twoPans_1 7 rfl rfl)
theorem dX1_twoPans_31 : decode cX1_twoPans 31 = .ok (.iconst 0, 1) := dk_3 (dk_at dksX1_twoPans_1 8 rfl rfl)
theorem dX1_twoPans_32 : decode cX1_twoPans 32 = .ok (.iconst 0, 1) := dk_3 (dk_at dksX1_twoPans_1 9 rfl rfl)
theorem dX1_twoPans_33 : decode cX1_twoPans 33 = .ok (.iload_n 1, 1) := dk_27 (dk_at dksX1_twoPans_1 10 rfl rfl)
theorem dX1_twoPans_34 : decode cX1_twoPans 34 = .ok (.invokevirtual 175, 3) := dk_182 0 175 (dk_at dksX1_twoPans_1 11 rfl rfl)
theorem dX1_twoPans_37 : decode cX1_twoPans 37 = .ok (.aload_n 0, 1) := dk_42 (dk_at dksX1_twoPans_1 14 rfl rfl)
theorem dX1_twoPans_38 : decode cX1_twoPans 38 = .ok (.getfield 169, 3) := dk_180 0 169 (dk_at dksX1_twoPans_1 15 rfl rfl)
theorem dX1_twoPans_41 : decode cX1_twoPans 41 = .ok (.bipush (-2), 2) := dk_16 254 (dk_at dksX1_twoPans_1 18 rfl rfl)
theorem dX1_twoPans_43 : decode cX1_twoPans 43 = .ok (.if_icmp .ne 8, 3) := dk_160 0 8 (dk_at dksX1_twoPans_1 20 rfl rfl)
theorem dX1_twoPans_46 : decode cX1_twoPans 46 = .ok (.bipush (-2), 2) := dk_16 254 (dk_at dksX1_twoPans_2 0 rfl rfl)
theorem dX1_twoPans_48 : decode cX1_twoPans 48 = .ok (.goto 16, 3) := dk_167 0 16 (dk_at dksX1_twoPans_2 2 rfl rfl)
theorem dX1_twoPans_51 : decode cX1_twoPans 51 = .ok (.aload_n 0, 1) := dk_42 (dk_at dksX1_twoPans_2 5 rfl rfl)
theorem dX1_twoPans_52 : decode cX1_twoPans 52 = .ok (.getfield 169, 3) := dk_180 0 169 (dk_at dksX1_twoPans_2 6 rfl rfl)
theorem dX1_twoPans_55 : decode cX1_twoPans 55 = .ok (.sipush 1024, 3) := dk_17 4 0 (dk_at dksX1_twoPans_2 9 rfl rfl)
theorem dX1_twoPans_58 : decode cX1_twoPans 58 = .ok (.aload_n 0, 1) := dk_42 (dk_at dksX1_twoPans_2 12 rfl rfl)
theorem dX1_twoPans_59 : decode cX1_twoPans 59 = .ok (.getfield 172, 3) := dk_180 0 172 (dk_at dksX1_twoPans_2 13 rfl rfl)
theorem dX1_twoPans_62 : decode cX1_twoPans 62 = .ok (.imul, 1) := dk_104 (dk_at dksX1_twoPans_2 16 rfl rfl)
theorem dX1_twoPans_63 : decode cX1_twoPans 63 = .ok (.iadd, 1) := dk_96 (dk_at dksX1_twoPans_2 17 rfl rfl)
theorem dX1_twoPans_64 : decode cX1_twoPans 64 = .ok (.ireturn, 1) := dk_172 (dk_at dksX1_twoPans_2 18 rfl rfl)
abbrev cX1_place : ByteArray := prog_1_method_21_code
def yX1_place : MethodName := ⟨RX1, "place", "(IIII)V"⟩
def dkwX1_place_4 : List UInt8 := [46, 100, 182, 0, 175, 177]
abbrev dktX1_place_4 : List UInt8 := dkwX1_place_4 ++ []
def dkwX1_place_3 : List UInt8 := [96, 182, 0, 175, 42, 27, 4, 96, 28, 4, 27, 120, 128, 29, 21, 4, 42, 180, 0, 20, 180, 0, 147, 27]
abbrev dktX1_place_3 : List UInt8 := dkwX1_place_3 ++ dktX1_place_4
def dkwX1_place_2 : List UInt8 := [182, 0, 175, 42, 27, 4, 96, 28, 29, 4, 27, 120, 128, 21, 4, 42, 180, 0, 20, 180, 0, 147, 27, 46]
abbrev dktX1_place_2 : List UInt8 := dkwX1_place_2 ++ dktX1_place_3
def dkwX1_place_1 : List UInt8 := [153, 0, 13, 42, 28, 181, 0, 169, 42, 29, 181, 0, 172, 177, 42, 27, 4, 96, 28, 29, 21, 4]
abbrev dktX1_place_1 : List UInt8 := dkwX1_place_1 ++ dktX1_place_2
def dkwX1_place_0 : List UInt8 := [27, 42, 180, 0, 20, 180, 0, 120, 160, 0, 28, 21, 4, 154, 0, 22, 42, 28, 29, 182, 0, 165]
abbrev dktX1_place_0 : List UInt8 := dkwX1_place_0 ++ dktX1_place_1
theorem dksX1_place_0 : cX1_place.data.toList.drop 0 = dktX1_place_0 := by decide +kernel
theorem dksX1_place_1 : cX1_place.data.toList.drop 22 = dktX1_place_1 := dk_seg dksX1_place_0 22 rfl rfl
theorem dksX1_place_2 : cX1_place.data.toList.drop 44 = dktX1_place_2 := dk_seg dksX1_place_1 22 rfl rfl
theorem dksX1_place_3 : cX1_place.data.toList.drop 68 = dktX1_place_3 := dk_seg dksX1_place_2 24 rfl rfl
theorem dksX1_place_4 : cX1_place.data.toList.drop 92 = dktX1_place_4 := dk_seg dksX1_place_3 24 rfl rfl
theorem dX1_place_0 : decode cX1_place 0 = .ok (.iload_n 1, 1) := dk_27 (dk_at dksX1_place_0 0 rfl rfl)
theorem dX1_place_1 : decode cX1_place 1 = .ok (.aload_n 0, 1) := dk_42 (dk_at dksX1_place_0 1 rfl rfl)
theorem dX1_place_2 : decode cX1_place 2 = .ok (.getfield 20, 3) := dk_180 0 20 (dk_at dksX1_place_0 2 rfl rfl)
theorem dX1_place_5 : decode cX1_place 5 = .ok (.getfield 120, 3) := dk_180 0 120 (dk_at dksX1_place_0 5 rfl rfl)
theorem dX1_place_8 : decode cX1_place 8 = .ok (.if_icmp .ne 28, 3) := dk_160 0 28 (dk_at dksX1_place_0 8 rfl rfl)
theorem dX1_place_11 : decode cX1_place 11 = .ok (.iload 4, 2) := dk_21 4 (dk_at dksX1_place_0 11 rfl rfl)
theorem dX1_place_13 : decode cX1_place 13 = .ok (.ifCond .ne 22, 3) := dk_154 0 22 (dk_at dksX1_place_0 13 rfl rfl)
theorem dX1_place_16 : decode cX1_place 16 = .ok (.aload_n 0, 1) := dk_42 (dk_at dksX1_place_0 16 rfl rfl)
theorem dX1_place_17 : decode cX1_place 17 = .ok (.iload_n 2, 1) := dk_28 (dk_at dksX1_place_0 17 rfl rfl)
theorem dX1_place_18 : decode cX1_place 18 = .ok (.iload_n 3, 1) := dk_29 (dk_at dksX1_place_0 18 rfl rfl)
theorem dX1_place_19 : decode cX1_place 19 = .ok (.invokevirtual 165, 3) := dk_182 0 165 (dk_at dksX1_place_0 19 rfl rfl)
theorem dX1_place_22 : decode cX1_place 22 = .ok (.ifCond .eq 13, 3) := dk_153 0 13 (dk_at dksX1_place_1 0 rfl rfl)
theorem dX1_place_25 : decode cX1_place 25 = .ok (.aload_n 0, 1) := dk_42 (dk_at dksX1_place_1 3 rfl rfl)
theorem dX1_place_26 : decode cX1_place 26 = .ok (.iload_n 2, 1) := dk_28 (dk_at dksX1_place_1 4 rfl rfl)
theorem dX1_place_27 : decode cX1_place 27 = .ok (.putfield 169, 3) := dk_181 0 169 (dk_at dksX1_place_1 5 rfl rfl)
theorem dX1_place_30 : decode cX1_place 30 = .ok (.aload_n 0, 1) := dk_42 (dk_at dksX1_place_1 8 rfl rfl)
theorem dX1_place_31 : decode cX1_place 31 = .ok (.iload_n 3, 1) := dk_29 (dk_at dksX1_place_1 9 rfl rfl)
theorem dX1_place_32 : decode cX1_place 32 = .ok (.putfield 172, 3) := dk_181 0 172 (dk_at dksX1_place_1 10 rfl rfl)
theorem dX1_place_35 : decode cX1_place 35 = .ok (.return_, 1) := dk_177 (dk_at dksX1_place_1 13 rfl rfl)
theorem dX1_place_36 : decode cX1_place 36 = .ok (.aload_n 0, 1) := dk_42 (dk_at dksX1_place_1 14 rfl rfl)
theorem dX1_place_37 : decode cX1_place 37 = .ok (.iload_n 1, 1) := dk_27 (dk_at dksX1_place_1 15 rfl rfl)
theorem dX1_place_38 : decode cX1_place 38 = .ok (.iconst 1, 1) := dk_4 (dk_at dksX1_place_1 16 rfl rfl)
theorem dX1_place_39 : decode cX1_place 39 = .ok (.iadd, 1) := dk_96 (dk_at dksX1_place_1 17 rfl rfl)
theorem dX1_place_40 : decode cX1_place 40 = .ok (.iload_n 2, 1) := dk_28 (dk_at dksX1_place_1 18 rfl rfl)
theorem dX1_place_41 : decode cX1_place 41 = .ok (.iload_n 3, 1) := dk_29 (dk_at dksX1_place_1 19 rfl rfl)
theorem dX1_place_42 : decode cX1_place 42 = .ok (.iload 4, 2) := dk_21 4 (dk_at dksX1_place_1 20 rfl rfl)
theorem dX1_place_44 : decode cX1_place 44 = .ok (.invokevirtual 175, 3) := dk_182 0 175 (dk_at dksX1_place_2 0 rfl rfl)
theorem dX1_place_47 : decode cX1_place 47 = .ok (.aload_n 0, 1) := dk_42 (dk_at dksX1_place_2 3 rfl rfl)
theorem dX1_place_48 : decode cX1_place 48 = .ok (.iload_n 1, 1) := dk_27 (dk_at dksX1_place_2 4 rfl rfl)
theorem dX1_place_49 : decode cX1_place 49 = .ok (.iconst 1, 1) := dk_4 (dk_at dksX1_place_2 5 rfl rfl)
theorem dX1_place_50 : decode cX1_place 50 = .ok (.iadd, 1) := dk_96 (dk_at dksX1_place_2 6 rfl rfl)
theorem dX1_place_51 : decode cX1_place 51 = .ok (.iload_n 2, 1) := dk_28 (dk_at dksX1_place_2 7 rfl rfl)
theorem dX1_place_52 : decode cX1_place 52 = .ok (.iload_n 3, 1) := dk_29 (dk_at dksX1_place_2 8 rfl rfl)
theorem dX1_place_53 : decode cX1_place 53 = .ok (.iconst 1, 1) := dk_4 (dk_at dksX1_place_2 9 rfl rfl)
theorem dX1_place_54 : decode cX1_place 54 = .ok (.iload_n 1, 1) := dk_27 (dk_at dksX1_place_2 10 rfl rfl)
theorem dX1_place_55 : decode cX1_place 55 = .ok (.ishl, 1) := dk_120 (dk_at dksX1_place_2 11 rfl rfl)
theorem dX1_place_56 : decode cX1_place 56 = .ok (.ior, 1) := dk_128 (dk_at dksX1_place_2 12 rfl rfl)
theorem dX1_place_57 : decode cX1_place 57 = .ok (.iload 4, 2) := dk_21 4 (dk_at dksX1_place_2 13 rfl rfl)
theorem dX1_place_59 : decode cX1_place 59 = .ok (.aload_n 0, 1) := dk_42 (dk_at dksX1_place_2 15 rfl rfl)
theorem dX1_place_60 : decode cX1_place 60 = .ok (.getfield 20, 3) := dk_180 0 20 (dk_at dksX1_place_2 16 rfl rfl)
theorem dX1_place_63 : decode cX1_place 63 = .ok (.getfield 147, 3) := dk_180 0 147 (dk_at dksX1_place_2 19 rfl rfl)
theorem dX1_place_66 : decode cX1_place 66 = .ok (.iload_n 1, 1) := dk_27 (dk_at dksX1_place_2 22 rfl rfl)
theorem dX1_place_67 : decode cX1_place 67 = .ok (.iaload, 1) := dk_46 (dk_at dksX1_place_2 23 rfl rfl)
theorem dX1_place_68 : decode cX1_place 68 = .ok (.iadd, 1) := dk_96 (dk_at dksX1_place_3 0 rfl rfl)
theorem dX1_place_69 : decode cX1_place 69 = .ok (.invokevirtual 175, 3) := dk_182 0 175 (dk_at dksX1_place_3 1 rfl rfl)
theorem dX1_place_72 : decode cX1_place 72 = .ok (.aload_n 0, 1) := dk_42 (dk_at dksX1_place_3 4 rfl rfl)
theorem dX1_place_73 : decode cX1_place 73 = .ok (.iload_n 1, 1) := dk_27 (dk_at dksX1_place_3 5 rfl rfl)
theorem dX1_place_74 : decode cX1_place 74 = .ok (.iconst 1, 1) := dk_4 (dk_at dksX1_place_3 6 rfl rfl)
theorem dX1_place_75 : decode cX1_place 75 = .ok (.iadd, 1) := dk_96 (dk_at dksX1_place_3 7 rfl rfl)
theorem dX1_place_76 : decode cX1_place 76 = .ok (.iload_n 2, 1) := dk_28 (dk_at dksX1_place_3 8 rfl rfl)
theorem dX1_place_77 : decode cX1_place 77 = .ok (.iconst 1, 1) := dk_4 (dk_at dksX1_place_3 9 rfl rfl)
theorem dX1_place_78 : decode cX1_place 78 = .ok (.iload_n 1, 1) := dk_27 (dk_at dksX1_place_3 10 rfl rfl)
theorem dX1_place_79 : decode cX1_place 79 = .ok (.ishl, 1) := dk_120 (dk_at dksX1_place_3 11 rfl rfl)
theorem dX1_place_80 : decode cX1_place 80 = .ok (.ior, 1) := dk_128 (dk_at dksX1_place_3 12 rfl rfl)
theorem dX1_place_81 : decode cX1_place 81 = .ok (.iload_n 3, 1) := dk_29 (dk_at dksX1_place_3 13 rfl rfl)
theorem dX1_place_82 : decode cX1_place 82 = .ok (.iload 4, 2) := dk_21 4 (dk_at dksX1_place_3 14 rfl rfl)
theorem dX1_place_84 : decode cX1_place 84 = .ok (.aload_n 0, 1) := dk_42 (dk_at dksX1_place_3 16 rfl rfl)
theorem dX1_place_85 : decode cX1_place 85 = .ok (.getfield 20, 3) := dk_180 0 20 (dk_at dksX1_place_3 17 rfl rfl)
theorem dX1_place_88 : decode cX1_place 88 = .ok (.getfield 147, 3) := dk_180 0 147 (dk_at dksX1_place_3 20 rfl rfl)
theorem dX1_place_91 : decode cX1_place 91 = .ok (.iload_n 1, 1) := dk_27 (dk_at dksX1_place_3 23 rfl rfl)
theorem dX1_place_92 : decode cX1_place 92 = .ok (.iaload, 1) := dk_46 (dk_at dksX1_place_4 0 rfl rfl)
theorem dX1_place_93 : decode cX1_place 93 = .ok (.isub, 1) := dk_100 (dk_at dksX1_place_4 1 rfl rfl)
theorem dX1_place_94 : decode cX1_place 94 = .ok (.invokevirtual 175, 3) := dk_182 0 175 (dk_at dksX1_place_4 2 rfl rfl)
theorem dX1_place_97 : decode cX1_place 97 = .ok (.return_, 1) := dk_177 (dk_at dksX1_place_4 5 rfl rfl)
abbrev cX1_isBetterPair : ByteArray := prog_1_method_22_code
def yX1_isBetterPair : MethodName := ⟨RX1, "isBetterPair", "(II)Z"⟩
def dkwX1_isBetterPair_3 : List UInt8 := [167, 0, 4, 3, 172]
abbrev dktX1_isBetterPair_3 : List UInt8 := dkwX1_isBetterPair_3 ++ []
def dkwX1_isBetterPair_2 : List UInt8 := [180, 0, 169, 161, 0, 19, 27, 42, 180, 0, 169, 160, 0, 15, 28, 42, 180, 0, 172, 162, 0, 7, 4]
abbrev dktX1_isBetterPair_2 : List UInt8 := dkwX1_isBetterPair_2 ++ dktX1_isBetterPair_3
def dkwX1_isBetterPair_1 : List UInt8 := [100, 62, 42, 180, 0, 169, 16, 254, 159, 0, 7, 29, 156, 0, 5, 4, 172, 29, 154, 0, 31, 27, 42]
abbrev dktX1_isBetterPair_1 : List UInt8 := dkwX1_isBetterPair_1 ++ dktX1_isBetterPair_2
def dkwX1_isBetterPair_0 : List UInt8 := [27, 184, 0, 154, 28, 184, 0, 154, 96, 42, 180, 0, 169, 184, 0, 154, 100, 42, 180, 0, 172, 184, 0, 154]
abbrev dktX1_isBetterPair_0 : List UInt8 := dkwX1_isBetterPair_0 ++ dktX1_isBetterPair_1
theorem dksX1_isBetterPair_0 : cX1_isBetterPair.data.toList.drop 0 = dktX1_isBetterPair_0 := by decide +kernel
theorem dksX1_isBetterPair_1 : cX1_isBetterPair.data.toList.drop 24 = dktX1_isBetterPair_1 := dk_seg dksX1_isBetterPair_0 24 rfl rfl
theorem dksX1_isBetterPair_2 : cX1_isBetterPair.data.toList.drop 47 = dktX1_isBetterPair_2 := dk_seg dksX1_isBetterPair_1 23 rfl rfl
theorem dksX1_isBetterPair_3 : cX1_isBetterPair.data.toList.drop 70 = dktX1_isBetterPair_3 := dk_seg dksX1_isBetterPair_2 23 rfl rfl
theorem dX1_isBetterPair_0 : decode cX1_isBetterPair 0 = .ok (.iload_n 1, 1) := dk_27 (dk_at dksX1_isBetterPair_0 0 rfl rfl)
theorem dX1_isBetterPair_1 : decode cX1_isBetterPair 1 = .ok (.invokestatic 154, 3) := dk_184 0 154 (dk_at dksX1_isBetterPair_0 1 rfl rfl)
theorem dX1_isBetterPair_4 : decode cX1_isBetterPair 4 = .ok (.iload_n 2, 1) := dk_28 (dk_at dksX1_isBetterPair_0 4 rfl rfl)
theorem dX1_isBetterPair_5 : decode cX1_isBetterPair 5 = .ok (.invokestatic 154, 3) := dk_184 0 154 (dk_at dksX1_isBetterPair_0 5 rfl rfl)
theorem dX1_isBetterPair_8 : decode cX1_isBetterPair 8 = .ok (.iadd, 1) := dk_96 (dk_at dksX1_isBetterPair_0 8 rfl rfl)
theorem dX1_isBetterPair_9 : decode cX1_isBetterPair 9 = .ok (.aload_n 0, 1) := dk_42 (dk_at dksX1_isBetterPair_0 9 rfl rfl)
theorem dX1_isBetterPair_10 : decode cX1_isBetterPair 10 = .ok (.getfield 169, 3) := dk_180 0 169 (dk_at dksX1_isBetterPair_0 10 rfl rfl)
theorem dX1_isBetterPair_13 : decode cX1_isBetterPair 13 = .ok (.invokestatic 154, 3) := dk_184 0 154 (dk_at dksX1_isBetterPair_0 13 rfl rfl)
theorem dX1_isBetterPair_16 : decode cX1_isBetterPair 16 = .ok (.isub, 1) := dk_100 (dk_at dksX1_isBetterPair_0 16 rfl rfl)
theorem dX1_isBetterPair_17 : decode cX1_isBetterPair 17 = .ok (.aload_n 0, 1) := dk_42 (dk_at dksX1_isBetterPair_0 17 rfl rfl)
theorem dX1_isBetterPair_18 : decode cX1_isBetterPair 18 = .ok (.getfield 172, 3) := dk_180 0 172 (dk_at dksX1_isBetterPair_0 18 rfl rfl)
theorem dX1_isBetterPair_21 : decode cX1_isBetterPair 21 = .ok (.invokestatic 154, 3) := dk_184 0 154 (dk_at dksX1_isBetterPair_0 21 rfl rfl)
theorem dX1_isBetterPair_24 : decode cX1_isBetterPair 24 = .ok (.isub, 1) := dk_100 (dk_at dksX1_isBetterPair_1 0 rfl rfl)
theorem dX1_isBetterPair_25 : decode cX1_isBetterPair 25 = .ok (.istore_n 3, 1) := dk_62 (dk_at dksX1_isBetterPair_1 1 rfl rfl)
theorem dX1_isBetterPair_26 : decode cX1_isBetterPair 26 = .ok (.aload_n 0, 1) := dk_42 (dk_at dksX1_isBetterPair_1 2 rfl rfl)
theorem dX1_isBetterPair_27 : decode cX1_isBetterPair 27 = .ok (.getfield 169, 3) := dk_180 0 169 (dk_at dksX1_isBetterPair_1 3 rfl rfl)
theorem dX1_isBetterPair_30 : decode cX1_isBetterPair 30 = .ok (.bipush (-2), 2) := dk_16 254 (dk_at dksX1_isBetterPair_1 6 rfl rfl)
theorem dX1_isBetterPair_32 : decode cX1_isBetterPair 32 = .ok (.if_icmp .eq 7, 3) := dk_159 0 7 (dk_at dksX1_isBetterPair_1 8 rfl rfl)
theorem dX1_isBetterPair_35 : decode cX1_isBetterPair 35 = .ok (.iload_n 3, 1) := dk_29 (dk_at dksX1_isBetterPair_1 11 rfl rfl)
theorem dX1_isBetterPair_36 : decode cX1_isBetterPair 36 = .ok (.ifCond .ge 5, 3) := dk_156 0 5 (dk_at dksX1_isBetterPair_1 12 rfl rfl)
theorem dX1_isBetterPair_39 : decode cX1_isBetterPair 39 = .ok (.iconst 1, 1) := dk_4 (dk_at dksX1_isBetterPair_1 15 rfl rfl)
theorem dX1_isBetterPair_40 : decode cX1_isBetterPair 40 = .ok (.ireturn, 1) := dk_172 (dk_at dksX1_isBetterPair_1 16 rfl rfl)
theorem dX1_isBetterPair_41 : decode cX1_isBetterPair 41 = .ok (.iload_n 3, 1) := dk_29 (dk_at dksX1_isBetterPair_1 17 rfl rfl)
theorem dX1_isBetterPair_42 : decode cX1_isBetterPair 42 = .ok (.ifCond .ne 31, 3) := dk_154 0 31 (dk_at dksX1_isBetterPair_1 18 rfl rfl)
theorem dX1_isBetterPair_45 : decode cX1_isBetterPair 45 = .ok (.iload_n 1, 1) := dk_27 (dk_at dksX1_isBetterPair_1 21 rfl rfl)
theorem dX1_isBetterPair_46 : decode cX1_isBetterPair 46 = .ok (.aload_n 0, 1) := dk_42 (dk_at dksX1_isBetterPair_1 22 rfl rfl)
theorem dX1_isBetterPair_47 : decode cX1_isBetterPair 47 = .ok (.getfield 169, 3) := dk_180 0 169 (dk_at dksX1_isBetterPair_2 0 rfl rfl)
theorem dX1_isBetterPair_50 : decode cX1_isBetterPair 50 = .ok (.if_icmp .lt 19, 3) := dk_161 0 19 (dk_at dksX1_isBetterPair_2 3 rfl rfl)
theorem dX1_isBetterPair_53 : decode cX1_isBetterPair 53 = .ok (.iload_n 1, 1) := dk_27 (dk_at dksX1_isBetterPair_2 6 rfl rfl)
theorem dX1_isBetterPair_54 : decode cX1_isBetterPair 54 = .ok (.aload_n 0, 1) := dk_42 (dk_at dksX1_isBetterPair_2 7 rfl rfl)
theorem dX1_isBetterPair_55 : decode cX1_isBetterPair 55 = .ok (.getfield 169, 3) := dk_180 0 169 (dk_at dksX1_isBetterPair_2 8 rfl rfl)
theorem dX1_isBetterPair_58 : decode cX1_isBetterPair 58 = .ok (.if_icmp .ne 15, 3) := dk_160 0 15 (dk_at dksX1_isBetterPair_2 11 rfl rfl)
theorem dX1_isBetterPair_61 : decode cX1_isBetterPair 61 = .ok (.iload_n 2, 1) := dk_28 (dk_at dksX1_isBetterPair_2 14 rfl rfl)
theorem dX1_isBetterPair_62 : decode cX1_isBetterPair 62 = .ok (.aload_n 0, 1) := dk_42 (dk_at dksX1_isBetterPair_2 15 rfl rfl)
theorem dX1_isBetterPair_63 : decode cX1_isBetterPair 63 = .ok (.getfield 172, 3) := dk_180 0 172 (dk_at dksX1_isBetterPair_2 16 rfl rfl)
theorem dX1_isBetterPair_66 : decode cX1_isBetterPair 66 = .ok (.if_icmp .ge 7, 3) := dk_162 0 7 (dk_at dksX1_isBetterPair_2 19 rfl rfl)
theorem dX1_isBetterPair_69 : decode cX1_isBetterPair 69 = .ok (.iconst 1, 1) := dk_4 (dk_at dksX1_isBetterPair_2 22 rfl rfl)
theorem dX1_isBetterPair_70 : decode cX1_isBetterPair 70 = .ok (.goto 4, 3) := dk_167 0 4 (dk_at dksX1_isBetterPair_3 0 rfl rfl)
theorem dX1_isBetterPair_73 : decode cX1_isBetterPair 73 = .ok (.iconst 0, 1) := dk_3 (dk_at dksX1_isBetterPair_3 3 rfl rfl)
theorem dX1_isBetterPair_74 : decode cX1_isBetterPair 74 = .ok (.ireturn, 1) := dk_172 (dk_at dksX1_isBetterPair_3 4 rfl rfl)
abbrev cX1_startVisit : ByteArray := prog_1_method_27_code
def yX1_startVisit : MethodName := ⟨RX1, "startVisit", "(II)I"⟩
def dkwX1_startVisit_8 : List UInt8 := [182, 0, 80, 4, 100, 172]
abbrev dktX1_startVisit_8 : List UInt8 := dkwX1_startVisit_8 ++ []
def dkwX1_startVisit_7 : List UInt8 := [21, 4, 153, 0, 7, 5, 167, 0, 4, 4, 183, 0, 210, 182, 0, 102, 87, 42, 180, 0, 27, 180, 0, 179]
abbrev dktX1_startVisit_7 : List UInt8 := dkwX1_startVisit_7 ++ dktX1_startVisit_8
def dkwX1_startVisit_6 : List UInt8 := [160, 0, 6, 16, 253, 172, 42, 182, 0, 207, 42, 180, 0, 27, 180, 0, 179, 187, 0, 183, 89, 27, 28]
abbrev dktX1_startVisit_6 : List UInt8 := dkwX1_startVisit_6 ++ dktX1_startVisit_7
def dkwX1_startVisit_5 : List UInt8 := [167, 255, 164, 29, 153, 0, 6, 16, 254, 172, 42, 180, 0, 27, 180, 0, 179, 182, 0, 80, 16, 30]
abbrev dktX1_startVisit_5 : List UInt8 := dkwX1_startVisit_5 ++ dktX1_startVisit_6
def dkwX1_startVisit_4 : List UInt8 := [128, 62, 21, 4, 25, 6, 180, 0, 204, 154, 0, 7, 4, 167, 0, 4, 3, 128, 54, 4, 132, 5, 1]
abbrev dktX1_startVisit_4 : List UInt8 := dkwX1_startVisit_4 ++ dktX1_startVisit_5
def dkwX1_startVisit_3 : List UInt8 := [25, 6, 180, 0, 197, 162, 0, 5, 2, 172, 29, 25, 6, 182, 0, 200, 154, 0, 7, 4, 167, 0, 4, 3]
abbrev dktX1_startVisit_3 : List UInt8 := dkwX1_startVisit_3 ++ dktX1_startVisit_4
def dkwX1_startVisit_2 : List UInt8 := [21, 5, 182, 0, 85, 192, 0, 183, 58, 6, 25, 6, 180, 0, 182, 27, 159, 0, 6, 167, 0, 48, 28]
abbrev dktX1_startVisit_2 : List UInt8 := dkwX1_startVisit_2 ++ dktX1_startVisit_3
def dkwX1_startVisit_1 : List UInt8 := [54, 5, 21, 5, 42, 180, 0, 27, 180, 0, 179, 182, 0, 80, 162, 0, 83, 42, 180, 0, 27, 180, 0, 179]
abbrev dktX1_startVisit_1 : List UInt8 := dkwX1_startVisit_1 ++ dktX1_startVisit_2
def dkwX1_startVisit_0 : List UInt8 := [42, 27, 182, 0, 125, 153, 0, 10, 28, 184, 0, 194, 154, 0, 5, 2, 172, 3, 62, 3, 54, 4, 3]
abbrev dktX1_startVisit_0 : List UInt8 := dkwX1_startVisit_0 ++ dktX1_startVisit_1
theorem dksX1_startVisit_0 : cX1_startVisit.data.toList.drop 0 = dktX1_startVisit_0 := by decide +kernel
theorem dksX1_startVisit_1 : cX1_startVisit.data.toList.drop 23 = dktX1_startVisit_1 := dk_seg dksX1_startVisit_0 23 rfl rfl
theorem dksX1_startVisit_2 : cX1_startVisit.data.toList.drop 47 = dktX1_startVisit_2 := dk_seg dksX1_startVisit_1 24 rfl rfl
theorem dksX1_startVisit_3 : cX1_startVisit.data.toList.drop 70 = dktX1_startVisit_3 := dk_seg dksX1_startVisit_2 23 rfl rfl
theorem dksX1_startVisit_4 : cX1_startVisit.data.toList.drop 94 = dktX1_startVisit_4 := dk_seg dksX1_startVisit_3 24 rfl rfl
theorem dksX1_startVisit_5 : cX1_startVisit.data.toList.drop 117 = dktX1_startVisit_5 := dk_seg dksX1_startVisit_4 23 rfl rfl
theorem dksX1_startVisit_6 : cX1_startVisit.data.toList.drop 139 = dktX1_startVisit_6 := dk_seg dksX1_startVisit_5 22 rfl rfl
theorem dksX1_startVisit_7 : cX1_startVisit.data.toList.drop 162 = dktX1_startVisit_7 := dk_seg dksX1_startVisit_6 23 rfl rfl
theorem dksX1_startVisit_8 : cX1_startVisit.data.toList.drop 186 = dktX1_startVisit_8 := dk_seg dksX1_startVisit_7 24 rfl rfl
theorem dX1_startVisit_0 : decode cX1_startVisit 0 = .ok (.aload_n 0, 1) := dk_42 (dk_at dksX1_startVisit_0 0 rfl rfl)
theorem dX1_startVisit_1 : decode cX1_startVisit 1 = .ok (.iload_n 1, 1) := dk_27 (dk_at dksX1_startVisit_0 1 rfl rfl)
theorem dX1_startVisit_2 : decode cX1_startVisit 2 = .ok (.invokevirtual 125, 3) := dk_182 0 125 (dk_at dksX1_startVisit_0 2 rfl rfl)
theorem dX1_startVisit_5 : decode cX1_startVisit 5 = .ok (.ifCond .eq 10, 3) := dk_153 0 10 (dk_at dksX1_startVisit_0 5 rfl rfl)
theorem dX1_startVisit_8 : decode cX1_startVisit 8 = .ok (.iload_n 2, 1) := dk_28 (dk_at dksX1_startVisit_0 8 rfl rfl)
theorem dX1_startVisit_9 : decode cX1_startVisit 9 = .ok (.invokestatic 194, 3) := dk_184 0 194 (dk_at dksX1_startVisit_0 9 rfl rfl)
theorem dX1_startVisit_12 : decode cX1_startVisit 12 = .ok (.ifCond .ne 5, 3) := dk_154 0 5 (dk_at dksX1_startVisit_0 12 rfl rfl)
theorem dX1_startVisit_15 : decode cX1_startVisit 15 = .ok (.iconst (-1), 1) := dk_2 (dk_at dksX1_startVisit_0 15 rfl rfl)
theorem dX1_startVisit_16 : decode cX1_startVisit 16 = .ok (.ireturn, 1) := dk_172 (dk_at dksX1_startVisit_0 16 rfl rfl)
theorem dX1_startVisit_17 : decode cX1_startVisit 17 = .ok (.iconst 0, 1) := dk_3 (dk_at dksX1_startVisit_0 17 rfl rfl)
theorem dX1_startVisit_18 : decode cX1_startVisit 18 = .ok (.istore_n 3, 1) := dk_62 (dk_at dksX1_startVisit_0 18 rfl rfl)
theorem dX1_startVisit_19 : decode cX1_startVisit 19 = .ok (.iconst 0, 1) := dk_3 (dk_at dksX1_startVisit_0 19 rfl rfl)
theorem dX1_startVisit_20 : decode cX1_startVisit 20 = .ok (.istore 4, 2) := dk_54 4 (dk_at dksX1_startVisit_0 20 rfl rfl)
theorem dX1_startVisit_22 : decode cX1_startVisit 22 = .ok (.iconst 0, 1) := dk_3 (dk_at dksX1_startVisit_0 22 rfl rfl)
theorem dX1_startVisit_23 : decode cX1_startVisit 23 = .ok (.istore 5, 2) := dk_54 5 (dk_at dksX1_startVisit_1 0 rfl rfl)
theorem dX1_startVisit_25 : decode cX1_startVisit 25 = .ok (.iload 5, 2) := dk_21 5 (dk_at dksX1_startVisit_1 2 rfl rfl)
theorem dX1_startVisit_27 : decode cX1_startVisit 27 = .ok (.aload_n 0, 1) := dk_42 (dk_at dksX1_startVisit_1 4 rfl rfl)
theorem dX1_startVisit_28 : decode cX1_startVisit 28 = .ok (.getfield 27, 3) := dk_180 0 27 (dk_at dksX1_startVisit_1 5 rfl rfl)
theorem dX1_startVisit_31 : decode cX1_startVisit 31 = .ok (.getfield 179, 3) := dk_180 0 179 (dk_at dksX1_startVisit_1 8 rfl rfl)
theorem dX1_startVisit_34 : decode cX1_startVisit 34 = .ok (.invokevirtual 80, 3) := dk_182 0 80 (dk_at dksX1_startVisit_1 11 rfl rfl)
theorem dX1_startVisit_37 : decode cX1_startVisit 37 = .ok (.if_icmp .ge 83, 3) := dk_162 0 83 (dk_at dksX1_startVisit_1 14 rfl rfl)
theorem dX1_startVisit_40 : decode cX1_startVisit 40 = .ok (.aload_n 0, 1) := dk_42 (dk_at dksX1_startVisit_1 17 rfl rfl)
theorem dX1_startVisit_41 : decode cX1_startVisit 41 = .ok (.getfield 27, 3) := dk_180 0 27 (dk_at dksX1_startVisit_1 18 rfl rfl)
theorem dX1_startVisit_44 : decode cX1_startVisit 44 = .ok (.getfield 179, 3) := dk_180 0 179 (dk_at dksX1_startVisit_1 21 rfl rfl)
theorem dX1_startVisit_47 : decode cX1_startVisit 47 = .ok (.iload 5, 2) := dk_21 5 (dk_at dksX1_startVisit_2 0 rfl rfl)
theorem dX1_startVisit_49 : decode cX1_startVisit 49 = .ok (.invokevirtual 85, 3) := dk_182 0 85 (dk_at dksX1_startVisit_2 2 rfl rfl)
theorem dX1_startVisit_52 : decode cX1_startVisit 52 = .ok (.checkcast 183, 3) := dk_192 0 183 (dk_at dksX1_startVisit_2 5 rfl rfl)
theorem dX1_startVisit_55 : decode cX1_startVisit 55 = .ok (.astore 6, 2) := dk_58 6 (dk_at dksX1_startVisit_2 8 rfl rfl)
theorem dX1_startVisit_57 : decode cX1_startVisit 57 = .ok (.aload 6, 2) := dk_25 6 (dk_at dksX1_startVisit_2 10 rfl rfl)
theorem dX1_startVisit_59 : decode cX1_startVisit 59 = .ok (.getfield 182, 3) := dk_180 0 182 (dk_at dksX1_startVisit_2 12 rfl rfl)
theorem dX1_startVisit_62 : decode cX1_startVisit 62 = .ok (.iload_n 1, 1) := dk_27 (dk_at dksX1_startVisit_2 15 rfl rfl)
theorem dX1_startVisit_63 : decode cX1_startVisit 63 = .ok (.if_icmp .eq 6, 3) := dk_159 0 6 (dk_at dksX1_startVisit_2 16 rfl rfl)
theorem dX1_startVisit_66 : decode cX1_startVisit 66 = .ok (.goto 48, 3) := dk_167 0 48 (dk_at dksX1_startVisit_2 19 rfl rfl)
theorem dX1_startVisit_69 : decode cX1_startVisit 69 = .ok (.iload_n 2, 1) := dk_28 (dk_at dksX1_startVisit_2 22 rfl rfl)
theorem dX1_startVisit_70 : decode cX1_startVisit 70 = .ok (.aload 6, 2) := dk_25 6 (dk_at dksX1_startVisit_3 0 rfl rfl)
theorem dX1_startVisit_72 : decode cX1_startVisit 72 = .ok (.getfield 197, 3) := dk_180 0 197 (dk_at dksX1_startVisit_3 2 rfl rfl)
theorem dX1_startVisit_75 : decode cX1_startVisit 75 = .ok (.if_icmp .ge 5, 3) := dk_162 0 5 (dk_at dksX1_startVisit_3 5 rfl rfl)
theorem dX1_startVisit_78 : decode cX1_startVisit 78 = .ok (.iconst (-1), 1) := dk_2 (dk_at dksX1_startVisit_3 8 rfl rfl)
theorem dX1_startVisit_79 : decode cX1_startVisit 79 = .ok (.ireturn, 1) := dk_172 (dk_at dksX1_startVisit_3 9 rfl rfl)
theorem dX1_startVisit_80 : decode cX1_startVisit 80 = .ok (.iload_n 3, 1) := dk_29 (dk_at dksX1_startVisit_3 10 rfl rfl)
theorem dX1_startVisit_81 : decode cX1_startVisit 81 = .ok (.aload 6, 2) := dk_25 6 (dk_at dksX1_startVisit_3 11 rfl rfl)
theorem dX1_startVisit_83 : decode cX1_startVisit 83 = .ok (.invokevirtual 200, 3) := dk_182 0 200 (dk_at dksX1_startVisit_3 13 rfl rfl)
theorem dX1_startVisit_86 : decode cX1_startVisit 86 = .ok (.ifCond .ne 7, 3) := dk_154 0 7 (dk_at dksX1_startVisit_3 16 rfl rfl)
theorem dX1_startVisit_89 : decode cX1_startVisit 89 = .ok (.iconst 1, 1) := dk_4 (dk_at dksX1_startVisit_3 19 rfl rfl)
theorem dX1_startVisit_90 : decode cX1_startVisit 90 = .ok (.goto 4, 3) := dk_167 0 4 (dk_at dksX1_startVisit_3 20 rfl rfl)
theorem dX1_startVisit_93 : decode cX1_startVisit 93 = .ok (.iconst 0, 1) := dk_3 (dk_at dksX1_startVisit_3 23 rfl rfl)
theorem dX1_startVisit_94 : decode cX1_startVisit 94 = .ok (.ior, 1) := dk_128 (dk_at dksX1_startVisit_4 0 rfl rfl)
theorem dX1_startVisit_95 : decode cX1_startVisit 95 = .ok (.istore_n 3, 1) := dk_62 (dk_at dksX1_startVisit_4 1 rfl rfl)
theorem dX1_startVisit_96 : decode cX1_startVisit 96 = .ok (.iload 4, 2) := dk_21 4 (dk_at dksX1_startVisit_4 2 rfl rfl)
theorem dX1_startVisit_98 : decode cX1_startVisit 98 = .ok (.aload 6, 2) := dk_25 6 (dk_at dksX1_startVisit_4 4 rfl rfl)
theorem dX1_startVisit_100 : decode cX1_startVisit 100 = .ok (.getfield 204, 3) := dk_180 0 204 (dk_at dksX1_startVisit_4 6 rfl rfl)
theorem dX1_startVisit_103 : decode cX1_startVisit 103 = .ok (.ifCond .ne 7, 3) := dk_154 0 7 (dk_at dksX1_startVisit_4 9 rfl rfl)
theorem dX1_startVisit_106 : decode cX1_startVisit 106 = .ok (.iconst 1, 1) := dk_4 (dk_at dksX1_startVisit_4 12 rfl rfl)
theorem dX1_startVisit_107 : decode cX1_startVisit 107 = .ok (.goto 4, 3) := dk_167 0 4 (dk_at dksX1_startVisit_4 13 rfl rfl)
theorem dX1_startVisit_110 : decode cX1_startVisit 110 = .ok (.iconst 0, 1) := dk_3 (dk_at dksX1_startVisit_4 16 rfl rfl)
theorem dX1_startVisit_111 : decode cX1_startVisit 111 = .ok (.ior, 1) := dk_128 (dk_at dksX1_startVisit_4 17 rfl rfl)
theorem dX1_startVisit_112 : decode cX1_startVisit 112 = .ok (.istore 4, 2) := dk_54 4 (dk_at dksX1_startVisit_4 18 rfl rfl)
theorem dX1_startVisit_114 : decode cX1_startVisit 114 = .ok (.iinc 5 1, 3) := dk_132 5 1 (dk_at dksX1_startVisit_4 20 rfl rfl)
theorem dX1_startVisit_117 : decode cX1_startVisit 117 = .ok (.goto (-92), 3) := dk_167 255 164 (dk_at dksX1_startVisit_5 0 rfl rfl)
theorem dX1_startVisit_120 : decode cX1_startVisit 120 = .ok (.iload_n 3, 1) := dk_29 (dk_at dksX1_startVisit_5 3 rfl rfl)
theorem dX1_startVisit_121 : decode cX1_startVisit 121 = .ok (.ifCond .eq 6, 3) := dk_153 0 6 (dk_at dksX1_startVisit_5 4 rfl rfl)
theorem dX1_startVisit_124 : decode cX1_startVisit 124 = .ok (.bipush (-2), 2) := dk_16 254 (dk_at dksX1_startVisit_5 7 rfl rfl)
theorem dX1_startVisit_126 : decode cX1_startVisit 126 = .ok (.ireturn, 1) := dk_172 (dk_at dksX1_startVisit_5 9 rfl rfl)
theorem dX1_startVisit_127 : decode cX1_startVisit 127 = .ok (.aload_n 0, 1) := dk_42 (dk_at dksX1_startVisit_5 10 rfl rfl)
theorem dX1_startVisit_128 : decode cX1_startVisit 128 = .ok (.getfield 27, 3) := dk_180 0 27 (dk_at dksX1_startVisit_5 11 rfl rfl)
theorem dX1_startVisit_131 : decode cX1_startVisit 131 = .ok (.getfield 179, 3) := dk_180 0 179 (dk_at dksX1_startVisit_5 14 rfl rfl)
theorem dX1_startVisit_134 : decode cX1_startVisit 134 = .ok (.invokevirtual 80, 3) := dk_182 0 80 (dk_at dksX1_startVisit_5 17 rfl rfl)
theorem dX1_startVisit_137 : decode cX1_startVisit 137 = .ok (.bipush 30, 2) := dk_16 30 (dk_at dksX1_startVisit_5 20 rfl rfl)
theorem dX1_startVisit_139 : decode cX1_startVisit 139 = .ok (.if_icmp .ne 6, 3) := dk_160 0 6 (dk_at dksX1_startVisit_6 0 rfl rfl)
theorem dX1_startVisit_142 : decode cX1_startVisit 142 = .ok (.bipush (-3), 2) := dk_16 253 (dk_at dksX1_startVisit_6 3 rfl rfl)
theorem dX1_startVisit_144 : decode cX1_startVisit 144 = .ok (.ireturn, 1) := dk_172 (dk_at dksX1_startVisit_6 5 rfl rfl)
theorem dX1_startVisit_145 : decode cX1_startVisit 145 = .ok (.aload_n 0, 1) := dk_42 (dk_at dksX1_startVisit_6 6 rfl rfl)
theorem dX1_startVisit_146 : decode cX1_startVisit 146 = .ok (.invokevirtual 207, 3) := dk_182 0 207 (dk_at dksX1_startVisit_6 7 rfl rfl)
theorem dX1_startVisit_149 : decode cX1_startVisit 149 = .ok (.aload_n 0, 1) := dk_42 (dk_at dksX1_startVisit_6 10 rfl rfl)
theorem dX1_startVisit_150 : decode cX1_startVisit 150 = .ok (.getfield 27, 3) := dk_180 0 27 (dk_at dksX1_startVisit_6 11 rfl rfl)
theorem dX1_startVisit_153 : decode cX1_startVisit 153 = .ok (.getfield 179, 3) := dk_180 0 179 (dk_at dksX1_startVisit_6 14 rfl rfl)
theorem dX1_startVisit_156 : decode cX1_startVisit 156 = .ok (.new 183, 3) := dk_187 0 183 (dk_at dksX1_startVisit_6 17 rfl rfl)
theorem dX1_startVisit_159 : decode cX1_startVisit 159 = .ok (.dup, 1) := dk_89 (dk_at dksX1_startVisit_6 20 rfl rfl)
theorem dX1_startVisit_160 : decode cX1_startVisit 160 = .ok (.iload_n 1, 1) := dk_27 (dk_at dksX1_startVisit_6 21 rfl rfl)
theorem dX1_startVisit_161 : decode cX1_startVisit 161 = .ok (.iload_n 2, 1) := dk_28 (dk_at dksX1_startVisit_6 22 rfl rfl)
theorem dX1_startVisit_162 : decode cX1_startVisit 162 = .ok (.iload 4, 2) := dk_21 4 (dk_at dksX1_startVisit_7 0 rfl rfl)
theorem dX1_startVisit_164 : decode cX1_startVisit 164 = .ok (.ifCond .eq 7, 3) := dk_153 0 7 (dk_at dksX1_startVisit_7 2 rfl rfl)
theorem dX1_startVisit_167 : decode cX1_startVisit 167 = .ok (.iconst 2, 1) := dk_5 (dk_at dksX1_startVisit_7 5 rfl rfl)
theorem dX1_startVisit_168 : decode cX1_startVisit 168 = .ok (.goto 4, 3) := dk_167 0 4 (dk_at dksX1_startVisit_7 6 rfl rfl)
theorem dX1_startVisit_171 : decode cX1_startVisit 171 = .ok (.iconst 1, 1) := dk_4 (dk_at dksX1_startVisit_7 9 rfl rfl)
theorem dX1_startVisit_172 : decode cX1_startVisit 172 = .ok (.invokespecial 210, 3) := dk_183 0 210 (dk_at dksX1_startVisit_7 10 rfl rfl)
theorem dX1_startVisit_175 : decode cX1_startVisit 175 = .ok (.invokevirtual 102, 3) := dk_182 0 102 (dk_at dksX1_startVisit_7 13 rfl rfl)
theorem dX1_startVisit_178 : decode cX1_startVisit 178 = .ok (.pop, 1) := dk_87 (dk_at dksX1_startVisit_7 16 rfl rfl)
theorem dX1_startVisit_179 : decode cX1_startVisit 179 = .ok (.aload_n 0, 1) := dk_42 (dk_at dksX1_startVisit_7 17 rfl rfl)
theorem dX1_startVisit_180 : decode cX1_startVisit 180 = .ok (.getfield 27, 3) := dk_180 0 27 (dk_at dksX1_startVisit_7 18 rfl rfl)
theorem dX1_startVisit_183 : decode cX1_startVisit 183 = .ok (.getfield 179, 3) := dk_180 0 179 (dk_at dksX1_startVisit_7 21 rfl rfl)
theorem dX1_startVisit_186 : decode cX1_startVisit 186 = .ok (.invokevirtual 80, 3) := dk_182 0 80 (dk_at dksX1_startVisit_8 0 rfl rfl)
theorem dX1_startVisit_189 : decode cX1_startVisit 189 = .ok (.iconst 1, 1) := dk_4 (dk_at dksX1_startVisit_8 3 rfl rfl)
theorem dX1_startVisit_190 : decode cX1_startVisit 190 = .ok (.isub, 1) := dk_100 (dk_at dksX1_startVisit_8 4 rfl rfl)
theorem dX1_startVisit_191 : decode cX1_startVisit 191 = .ok (.ireturn, 1) := dk_172 (dk_at dksX1_startVisit_8 5 rfl rfl)
abbrev cX1_isDay : ByteArray := prog_1_method_14_code
def yX1_isDay : MethodName := ⟨RX1, "isDay", "(I)Z"⟩
def dkwX1_isDay_0 : List UInt8 := [26, 133, 9, 20, 0, 123, 184, 0, 56, 172]
abbrev dktX1_isDay_0 : List UInt8 := dkwX1_isDay_0 ++ []
theorem dksX1_isDay_0 : cX1_isDay.data.toList.drop 0 = dktX1_isDay_0 := by decide +kernel
theorem dX1_isDay_0 : decode cX1_isDay 0 = .ok (.iload_n 0, 1) := dk_26 (dk_at dksX1_isDay_0 0 rfl rfl)
theorem dX1_isDay_1 : decode cX1_isDay 1 = .ok (.i2l, 1) := dk_133 (dk_at dksX1_isDay_0 1 rfl rfl)
theorem dX1_isDay_2 : decode cX1_isDay 2 = .ok (.lconst 0, 1) := dk_9 (dk_at dksX1_isDay_0 2 rfl rfl)
theorem dX1_isDay_3 : decode cX1_isDay 3 = .ok (.ldc2_w 123, 3) := dk_20 0 123 (dk_at dksX1_isDay_0 3 rfl rfl)
theorem dX1_isDay_6 : decode cX1_isDay 6 = .ok (.invokestatic 56, 3) := dk_184 0 56 (dk_at dksX1_isDay_0 6 rfl rfl)
theorem dX1_isDay_9 : decode cX1_isDay 9 = .ok (.ireturn, 1) := dk_172 (dk_at dksX1_isDay_0 9 rfl rfl)
abbrev cX1_keep : ByteArray := prog_1_method_26_code
def yX1_keep : MethodName := ⟨RX1, "keep", "()V"⟩
def dkwX1_keep_1 : List UInt8 := [180, 0, 36, 42, 180, 0, 27, 182, 0, 190, 182, 0, 102, 87, 177]
abbrev dktX1_keep_1 : List UInt8 := dkwX1_keep_1 ++ []
def dkwX1_keep_0 : List UInt8 := [42, 180, 0, 36, 182, 0, 80, 16, 12, 160, 0, 12, 42, 180, 0, 36, 3, 182, 0, 187, 87, 42]
abbrev dktX1_keep_0 : List UInt8 := dkwX1_keep_0 ++ dktX1_keep_1
theorem dksX1_keep_0 : cX1_keep.data.toList.drop 0 = dktX1_keep_0 := by decide +kernel
theorem dksX1_keep_1 : cX1_keep.data.toList.drop 22 = dktX1_keep_1 := dk_seg dksX1_keep_0 22 rfl rfl
theorem dX1_keep_0 : decode cX1_keep 0 = .ok (.aload_n 0, 1) := dk_42 (dk_at dksX1_keep_0 0 rfl rfl)
theorem dX1_keep_1 : decode cX1_keep 1 = .ok (.getfield 36, 3) := dk_180 0 36 (dk_at dksX1_keep_0 1 rfl rfl)
theorem dX1_keep_4 : decode cX1_keep 4 = .ok (.invokevirtual 80, 3) := dk_182 0 80 (dk_at dksX1_keep_0 4 rfl rfl)
theorem dX1_keep_7 : decode cX1_keep 7 = .ok (.bipush 12, 2) := dk_16 12 (dk_at dksX1_keep_0 7 rfl rfl)
theorem dX1_keep_9 : decode cX1_keep 9 = .ok (.if_icmp .ne 12, 3) := dk_160 0 12 (dk_at dksX1_keep_0 9 rfl rfl)
theorem dX1_keep_12 : decode cX1_keep 12 = .ok (.aload_n 0, 1) := dk_42 (dk_at dksX1_keep_0 12 rfl rfl)
theorem dX1_keep_13 : decode cX1_keep 13 = .ok (.getfield 36, 3) := dk_180 0 36 (dk_at dksX1_keep_0 13 rfl rfl)
theorem dX1_keep_16 : decode cX1_keep 16 = .ok (.iconst 0, 1) := dk_3 (dk_at dksX1_keep_0 16 rfl rfl)
theorem dX1_keep_17 : decode cX1_keep 17 = .ok (.invokevirtual 187, 3) := dk_182 0 187 (dk_at dksX1_keep_0 17 rfl rfl)
theorem dX1_keep_20 : decode cX1_keep 20 = .ok (.pop, 1) := dk_87 (dk_at dksX1_keep_0 20 rfl rfl)
theorem dX1_keep_21 : decode cX1_keep 21 = .ok (.aload_n 0, 1) := dk_42 (dk_at dksX1_keep_0 21 rfl rfl)
theorem dX1_keep_22 : decode cX1_keep 22 = .ok (.getfield 36, 3) := dk_180 0 36 (dk_at dksX1_keep_1 0 rfl rfl)
theorem dX1_keep_25 : decode cX1_keep 25 = .ok (.aload_n 0, 1) := dk_42 (dk_at dksX1_keep_1 3 rfl rfl)
theorem dX1_keep_26 : decode cX1_keep 26 = .ok (.getfield 27, 3) := dk_180 0 27 (dk_at dksX1_keep_1 4 rfl rfl)
theorem dX1_keep_29 : decode cX1_keep 29 = .ok (.invokevirtual 190, 3) := dk_182 0 190 (dk_at dksX1_keep_1 7 rfl rfl)
theorem dX1_keep_32 : decode cX1_keep 32 = .ok (.invokevirtual 102, 3) := dk_182 0 102 (dk_at dksX1_keep_1 10 rfl rfl)
theorem dX1_keep_35 : decode cX1_keep 35 = .ok (.pop, 1) := dk_87 (dk_at dksX1_keep_1 13 rfl rfl)
theorem dX1_keep_36 : decode cX1_keep 36 = .ok (.return_, 1) := dk_177 (dk_at dksX1_keep_1 14 rfl rfl)
abbrev cX1_visitCount : ByteArray := prog_1_method_28_code
def yX1_visitCount : MethodName := ⟨RX1, "visitCount", "()I"⟩
def dkwX1_visitCount_0 : List UInt8 := [42, 180, 0, 27, 180, 0, 179, 182, 0, 80, 172]
abbrev dktX1_visitCount_0 : List UInt8 := dkwX1_visitCount_0 ++ []
theorem dksX1_visitCount_0 : cX1_visitCount.data.toList.drop 0 = dktX1_visitCount_0 := by decide +kernel
theorem dX1_visitCount_0 : decode cX1_visitCount 0 = .ok (.aload_n 0, 1) := dk_42 (dk_at dksX1_visitCount_0 0 rfl rfl)
theorem dX1_visitCount_1 : decode cX1_visitCount 1 = .ok (.getfield 27, 3) := dk_180 0 27 (dk_at dksX1_visitCount_0 1 rfl rfl)
theorem dX1_visitCount_4 : decode cX1_visitCount 4 = .ok (.getfield 179, 3) := dk_180 0 179 (dk_at dksX1_visitCount_0 4 rfl rfl)
theorem dX1_visitCount_7 : decode cX1_visitCount 7 = .ok (.invokevirtual 80, 3) := dk_182 0 80 (dk_at dksX1_visitCount_0 7 rfl rfl)
theorem dX1_visitCount_10 : decode cX1_visitCount 10 = .ok (.ireturn, 1) := dk_172 (dk_at dksX1_visitCount_0 10 rfl rfl)
abbrev cX1_visitScale : ByteArray := prog_1_method_29_code
def yX1_visitScale : MethodName := ⟨RX1, "visitScale", "(I)I"⟩
def dkwX1_visitScale_1 : List UInt8 := [180, 0, 182, 167, 0, 4, 2, 172]
abbrev dktX1_visitScale_1 : List UInt8 := dkwX1_visitScale_1 ++ []
def dkwX1_visitScale_0 : List UInt8 := [42, 27, 182, 0, 213, 153, 0, 23, 42, 180, 0, 27, 180, 0, 179, 27, 182, 0, 85, 192, 0, 183]
abbrev dktX1_visitScale_0 : List UInt8 := dkwX1_visitScale_0 ++ dktX1_visitScale_1
theorem dksX1_visitScale_0 : cX1_visitScale.data.toList.drop 0 = dktX1_visitScale_0 := by decide +kernel
theorem dksX1_visitScale_1 : cX1_visitScale.data.toList.drop 22 = dktX1_visitScale_1 := dk_seg dksX1_visitScale_0 22 rfl rfl
theorem dX1_visitScale_0 : decode cX1_visitScale 0 = .ok (.aload_n 0, 1) := dk_42 (dk_at dksX1_visitScale_0 0 rfl rfl)
theorem dX1_visitScale_1 : decode cX1_visitScale 1 = .ok (.iload_n 1, 1) := dk_27 (dk_at dksX1_visitScale_0 1 rfl rfl)
theorem dX1_visitScale_2 : decode cX1_visitScale 2 = .ok (.invokevirtual 213, 3) := dk_182 0 213 (dk_at dksX1_visitScale_0 2 rfl rfl)
theorem dX1_visitScale_5 : decode cX1_visitScale 5 = .ok (.ifCond .eq 23, 3) := dk_153 0 23 (dk_at dksX1_visitScale_0 5 rfl rfl)
theorem dX1_visitScale_8 : decode cX1_visitScale 8 = .ok (.aload_n 0, 1) := dk_42 (dk_at dksX1_visitScale_0 8 rfl rfl)
theorem dX1_visitScale_9 : decode cX1_visitScale 9 = .ok (.getfield 27, 3) := dk_180 0 27 (dk_at dksX1_visitScale_0 9 rfl rfl)
theorem dX1_visitScale_12 : decode cX1_visitScale 12 = .ok (.getfield 179, 3) := dk_180 0 179 (dk_at dksX1_visitScale_0 12 rfl rfl)
theorem dX1_visitScale_15 : decode cX1_visitScale 15 = .ok (.iload_n 1, 1) := dk_27 (dk_at dksX1_visitScale_0 15 rfl rfl)
theorem dX1_visitScale_16 : decode cX1_visitScale 16 = .ok (.invokevirtual 85, 3) := dk_182 0 85 (dk_at dksX1_visitScale_0 16 rfl rfl)
theorem dX1_visitScale_19 : decode cX1_visitScale 19 = .ok (.checkcast 183, 3) := dk_192 0 183 (dk_at dksX1_visitScale_0 19 rfl rfl)
theorem dX1_visitScale_22 : decode cX1_visitScale 22 = .ok (.getfield 182, 3) := dk_180 0 182 (dk_at dksX1_visitScale_1 0 rfl rfl)
theorem dX1_visitScale_25 : decode cX1_visitScale 25 = .ok (.goto 4, 3) := dk_167 0 4 (dk_at dksX1_visitScale_1 3 rfl rfl)
theorem dX1_visitScale_28 : decode cX1_visitScale 28 = .ok (.iconst (-1), 1) := dk_2 (dk_at dksX1_visitScale_1 6 rfl rfl)
theorem dX1_visitScale_29 : decode cX1_visitScale 29 = .ok (.ireturn, 1) := dk_172 (dk_at dksX1_visitScale_1 7 rfl rfl)
abbrev cX1_isVisit : ByteArray := prog_1_method_24_code
def yX1_isVisit : MethodName := ⟨RX1, "isVisit", "(I)Z"⟩
def dkwX1_isVisit_0 : List UInt8 := [27, 133, 9, 42, 180, 0, 27, 180, 0, 179, 182, 0, 80, 4, 100, 133, 184, 0, 56, 172]
abbrev dktX1_isVisit_0 : List UInt8 := dkwX1_isVisit_0 ++ []
theorem dksX1_isVisit_0 : cX1_isVisit.data.toList.drop 0 = dktX1_isVisit_0 := by decide +kernel
theorem dX1_isVisit_0 : decode cX1_isVisit 0 = .ok (.iload_n 1, 1) := dk_27 (dk_at dksX1_isVisit_0 0 rfl rfl)
theorem dX1_isVisit_1 : decode cX1_isVisit 1 = .ok (.i2l, 1) := dk_133 (dk_at dksX1_isVisit_0 1 rfl rfl)
theorem dX1_isVisit_2 : decode cX1_isVisit 2 = .ok (.lconst 0, 1) := dk_9 (dk_at dksX1_isVisit_0 2 rfl rfl)
theorem dX1_isVisit_3 : decode cX1_isVisit 3 = .ok (.aload_n 0, 1) := dk_42 (dk_at dksX1_isVisit_0 3 rfl rfl)
theorem dX1_isVisit_4 : decode cX1_isVisit 4 = .ok (.getfield 27, 3) := dk_180 0 27 (dk_at dksX1_isVisit_0 4 rfl rfl)
theorem dX1_isVisit_7 : decode cX1_isVisit 7 = .ok (.getfield 179, 3) := dk_180 0 179 (dk_at dksX1_isVisit_0 7 rfl rfl)
theorem dX1_isVisit_10 : decode cX1_isVisit 10 = .ok (.invokevirtual 80, 3) := dk_182 0 80 (dk_at dksX1_isVisit_0 10 rfl rfl)
theorem dX1_isVisit_13 : decode cX1_isVisit 13 = .ok (.iconst 1, 1) := dk_4 (dk_at dksX1_isVisit_0 13 rfl rfl)
theorem dX1_isVisit_14 : decode cX1_isVisit 14 = .ok (.isub, 1) := dk_100 (dk_at dksX1_isVisit_0 14 rfl rfl)
theorem dX1_isVisit_15 : decode cX1_isVisit 15 = .ok (.i2l, 1) := dk_133 (dk_at dksX1_isVisit_0 15 rfl rfl)
theorem dX1_isVisit_16 : decode cX1_isVisit 16 = .ok (.invokestatic 56, 3) := dk_184 0 56 (dk_at dksX1_isVisit_0 16 rfl rfl)
theorem dX1_isVisit_19 : decode cX1_isVisit 19 = .ok (.ireturn, 1) := dk_172 (dk_at dksX1_isVisit_0 19 rfl rfl)
abbrev cX1_isInService : ByteArray := prog_1_method_30_code
def yX1_isInService : MethodName := ⟨RX1, "isInService", "(I)I"⟩
def dkwX1_isInService_1 : List UInt8 := [180, 0, 216, 4, 100, 167, 0, 4, 2, 172]
abbrev dktX1_isInService_1 : List UInt8 := dkwX1_isInService_1 ++ []
def dkwX1_isInService_0 : List UInt8 := [42, 27, 182, 0, 213, 153, 0, 25, 42, 180, 0, 27, 180, 0, 179, 27, 182, 0, 85, 192, 0, 183]
abbrev dktX1_isInService_0 : List UInt8 := dkwX1_isInService_0 ++ dktX1_isInService_1
theorem dksX1_isInService_0 : cX1_isInService.data.toList.drop 0 = dktX1_isInService_0 := by decide +kernel
theorem dksX1_isInService_1 : cX1_isInService.data.toList.drop 22 = dktX1_isInService_1 := dk_seg dksX1_isInService_0 22 rfl rfl
theorem dX1_isInService_0 : decode cX1_isInService 0 = .ok (.aload_n 0, 1) := dk_42 (dk_at dksX1_isInService_0 0 rfl rfl)
theorem dX1_isInService_1 : decode cX1_isInService 1 = .ok (.iload_n 1, 1) := dk_27 (dk_at dksX1_isInService_0 1 rfl rfl)
theorem dX1_isInService_2 : decode cX1_isInService 2 = .ok (.invokevirtual 213, 3) := dk_182 0 213 (dk_at dksX1_isInService_0 2 rfl rfl)
theorem dX1_isInService_5 : decode cX1_isInService 5 = .ok (.ifCond .eq 25, 3) := dk_153 0 25 (dk_at dksX1_isInService_0 5 rfl rfl)
theorem dX1_isInService_8 : decode cX1_isInService 8 = .ok (.aload_n 0, 1) := dk_42 (dk_at dksX1_isInService_0 8 rfl rfl)
theorem dX1_isInService_9 : decode cX1_isInService 9 = .ok (.getfield 27, 3) := dk_180 0 27 (dk_at dksX1_isInService_0 9 rfl rfl)
theorem dX1_isInService_12 : decode cX1_isInService 12 = .ok (.getfield 179, 3) := dk_180 0 179 (dk_at dksX1_isInService_0 12 rfl rfl)
theorem dX1_isInService_15 : decode cX1_isInService 15 = .ok (.iload_n 1, 1) := dk_27 (dk_at dksX1_isInService_0 15 rfl rfl)
theorem dX1_isInService_16 : decode cX1_isInService 16 = .ok (.invokevirtual 85, 3) := dk_182 0 85 (dk_at dksX1_isInService_0 16 rfl rfl)
theorem dX1_isInService_19 : decode cX1_isInService 19 = .ok (.checkcast 183, 3) := dk_192 0 183 (dk_at dksX1_isInService_0 19 rfl rfl)
theorem dX1_isInService_22 : decode cX1_isInService 22 = .ok (.getfield 216, 3) := dk_180 0 216 (dk_at dksX1_isInService_1 0 rfl rfl)
theorem dX1_isInService_25 : decode cX1_isInService 25 = .ok (.iconst 1, 1) := dk_4 (dk_at dksX1_isInService_1 3 rfl rfl)
theorem dX1_isInService_26 : decode cX1_isInService 26 = .ok (.isub, 1) := dk_100 (dk_at dksX1_isInService_1 4 rfl rfl)
theorem dX1_isInService_27 : decode cX1_isInService 27 = .ok (.goto 4, 3) := dk_167 0 4 (dk_at dksX1_isInService_1 5 rfl rfl)
theorem dX1_isInService_30 : decode cX1_isInService 30 = .ok (.iconst (-1), 1) := dk_2 (dk_at dksX1_isInService_1 8 rfl rfl)
theorem dX1_isInService_31 : decode cX1_isInService 31 = .ok (.ireturn, 1) := dk_172 (dk_at dksX1_isInService_1 9 rfl rfl)
abbrev cX1_record : ByteArray := prog_1_method_31_code
def yX1_record : MethodName := ⟨RX1, "record", "(III)I"⟩
def dkwX1_record_8 : List UInt8 := [180, 0, 227, 4, 96, 181, 0, 227, 25, 5, 180, 0, 227, 4, 100, 172]
abbrev dktX1_record_8 : List UInt8 := dkwX1_record_8 ++ []
def dkwX1_record_7 : List UInt8 := [180, 0, 227, 28, 79, 25, 5, 180, 0, 231, 25, 5, 180, 0, 227, 29, 21, 4, 100, 79, 25, 5, 89]
abbrev dktX1_record_7 : List UInt8 := dkwX1_record_7 ++ dktX1_record_8
def dkwX1_record_6 : List UInt8 := [180, 0, 27, 180, 0, 179, 27, 182, 0, 85, 192, 0, 183, 58, 5, 25, 5, 180, 0, 230, 25, 5]
abbrev dktX1_record_6 : List UInt8 := dkwX1_record_6 ++ dktX1_record_7
def dkwX1_record_5 : List UInt8 := [182, 0, 85, 192, 0, 183, 180, 0, 227, 16, 8, 160, 0, 6, 16, 253, 172, 42, 182, 0, 207, 42]
abbrev dktX1_record_5 : List UInt8 := dkwX1_record_5 ++ dktX1_record_6
def dkwX1_record_4 : List UInt8 := [182, 0, 85, 192, 0, 183, 182, 0, 200, 153, 0, 6, 16, 254, 172, 42, 180, 0, 27, 180, 0, 179, 27]
abbrev dktX1_record_4 : List UInt8 := dkwX1_record_4 ++ dktX1_record_5
def dkwX1_record_3 : List UInt8 := [20, 0, 223, 20, 0, 225, 184, 0, 56, 154, 0, 5, 2, 172, 42, 180, 0, 27, 180, 0, 179, 27]
abbrev dktX1_record_3 : List UInt8 := dkwX1_record_3 ++ dktX1_record_4
def dkwX1_record_2 : List UInt8 := [180, 0, 27, 180, 0, 179, 27, 182, 0, 85, 192, 0, 183, 182, 0, 219, 180, 0, 134, 163, 0, 17, 29, 133]
abbrev dktX1_record_2 : List UInt8 := dkwX1_record_2 ++ dktX1_record_3
def dkwX1_record_1 : List UInt8 := [184, 0, 56, 154, 0, 5, 2, 172, 42, 180, 0, 20, 28, 182, 0, 151, 54, 4, 21, 4, 42, 42]
abbrev dktX1_record_1 : List UInt8 := dkwX1_record_1 ++ dktX1_record_2
def dkwX1_record_0 : List UInt8 := [42, 27, 182, 0, 213, 153, 0, 24, 28, 133, 9, 4, 42, 180, 0, 20, 180, 0, 120, 120, 4, 100, 133]
abbrev dktX1_record_0 : List UInt8 := dkwX1_record_0 ++ dktX1_record_1
theorem dksX1_record_0 : cX1_record.data.toList.drop 0 = dktX1_record_0 := by decide +kernel
theorem dksX1_record_1 : cX1_record.data.toList.drop 23 = dktX1_record_1 := dk_seg dksX1_record_0 23 rfl rfl
theorem dksX1_record_2 : cX1_record.data.toList.drop 45 = dktX1_record_2 := dk_seg dksX1_record_1 22 rfl rfl
theorem dksX1_record_3 : cX1_record.data.toList.drop 69 = dktX1_record_3 := dk_seg dksX1_record_2 24 rfl rfl
theorem dksX1_record_4 : cX1_record.data.toList.drop 91 = dktX1_record_4 := dk_seg dksX1_record_3 22 rfl rfl
theorem dksX1_record_5 : cX1_record.data.toList.drop 114 = dktX1_record_5 := dk_seg dksX1_record_4 23 rfl rfl
theorem dksX1_record_6 : cX1_record.data.toList.drop 136 = dktX1_record_6 := dk_seg dksX1_record_5 22 rfl rfl
theorem dksX1_record_7 : cX1_record.data.toList.drop 158 = dktX1_record_7 := dk_seg dksX1_record_6 22 rfl rfl
theorem dksX1_record_8 : cX1_record.data.toList.drop 181 = dktX1_record_8 := dk_seg dksX1_record_7 23 rfl rfl
theorem dX1_record_0 : decode cX1_record 0 = .ok (.aload_n 0, 1) := dk_42 (dk_at dksX1_record_0 0 rfl rfl)
theorem dX1_record_1 : decode cX1_record 1 = .ok (.iload_n 1, 1) := dk_27 (dk_at dksX1_record_0 1 rfl rfl)
theorem dX1_record_2 : decode cX1_record 2 = .ok (.invokevirtual 213, 3) := dk_182 0 213 (dk_at dksX1_record_0 2 rfl rfl)
theorem dX1_record_5 : decode cX1_record 5 = .ok (.ifCond .eq 24, 3) := dk_153 0 24 (dk_at dksX1_record_0 5 rfl rfl)
theorem dX1_record_8 : decode cX1_record 8 = .ok (.iload_n 2, 1) := dk_28 (dk_at dksX1_record_0 8 rfl rfl)
theorem dX1_record_9 : decode cX1_record 9 = .ok (.i2l, 1) := dk_133 (dk_at dksX1_record_0 9 rfl rfl)
theorem dX1_record_10 : decode cX1_record 10 = .ok (.lconst 0, 1) := dk_9 (dk_at dksX1_record_0 10 rfl rfl)
theorem dX1_record_11 : decode cX1_record 11 = .ok (.iconst 1, 1) := dk_4 (dk_at dksX1_record_0 11 rfl rfl)
theorem dX1_record_12 : decode cX1_record 12 = .ok (.aload_n 0, 1) := dk_42 (dk_at dksX1_record_0 12 rfl rfl)
theorem dX1_record_13 : decode cX1_record 13 = .ok (.getfield 20, 3) := dk_180 0 20 (dk_at dksX1_record_0 13 rfl rfl)
theorem dX1_record_16 : decode cX1_record 16 = .ok (.getfield 120, 3) := dk_180 0 120 (dk_at dksX1_record_0 16 rfl rfl)
theorem dX1_record_19 : decode cX1_record 19 = .ok (.ishl, 1) := dk_120 (dk_at dksX1_record_0 19 rfl rfl)
theorem dX1_record_20 : decode cX1_record 20 = .ok (.iconst 1, 1) := dk_4 (dk_at dksX1_record_0 20 rfl rfl)
theorem dX1_record_21 : decode cX1_record 21 = .ok (.isub, 1) := dk_100 (dk_at dksX1_record_0 21 rfl rfl)
theorem dX1_record_22 : decode cX1_record 22 = .ok (.i2l, 1) := dk_133 (dk_at dksX1_record_0 22 rfl rfl)
theorem dX1_record_23 : decode cX1_record 23 = .ok (.invokestatic 56, 3) := dk_184 0 56 (dk_at dksX1_record_1 0 rfl rfl)
theorem dX1_record_26 : decode cX1_record 26 = .ok (.ifCond .ne 5, 3) := dk_154 0 5 (dk_at dksX1_record_1 3 rfl rfl)
theorem dX1_record_29 : decode cX1_record 29 = .ok (.iconst (-1), 1) := dk_2 (dk_at dksX1_record_1 6 rfl rfl)
theorem dX1_record_30 : decode cX1_record 30 = .ok (.ireturn, 1) := dk_172 (dk_at dksX1_record_1 7 rfl rfl)
theorem dX1_record_31 : decode cX1_record 31 = .ok (.aload_n 0, 1) := dk_42 (dk_at dksX1_record_1 8 rfl rfl)
theorem dX1_record_32 : decode cX1_record 32 = .ok (.getfield 20, 3) := dk_180 0 20 (dk_at dksX1_record_1 9 rfl rfl)
theorem dX1_record_35 : decode cX1_record 35 = .ok (.iload_n 2, 1) := dk_28 (dk_at dksX1_record_1 12 rfl rfl)
theorem dX1_record_36 : decode cX1_record 36 = .ok (.invokevirtual 151, 3) := dk_182 0 151 (dk_at dksX1_record_1 13 rfl rfl)
theorem dX1_record_39 : decode cX1_record 39 = .ok (.istore 4, 2) := dk_54 4 (dk_at dksX1_record_1 16 rfl rfl)
theorem dX1_record_41 : decode cX1_record 41 = .ok (.iload 4, 2) := dk_21 4 (dk_at dksX1_record_1 18 rfl rfl)
theorem dX1_record_43 : decode cX1_record 43 = .ok (.aload_n 0, 1) := dk_42 (dk_at dksX1_record_1 20 rfl rfl)
theorem dX1_record_44 : decode cX1_record 44 = .ok (.aload_n 0, 1) := dk_42 (dk_at dksX1_record_1 21 rfl rfl)
theorem dX1_record_45 : decode cX1_record 45 = .ok (.getfield 27, 3) := dk_180 0 27 (dk_at dksX1_record_2 0 rfl rfl)
theorem dX1_record_48 : decode cX1_record 48 = .ok (.getfield 179, 3) := dk_180 0 179 (dk_at dksX1_record_2 3 rfl rfl)
theorem dX1_record_51 : decode cX1_record 51 = .ok (.iload_n 1, 1) := dk_27 (dk_at dksX1_record_2 6 rfl rfl)
theorem dX1_record_52 : decode cX1_record 52 = .ok (.invokevirtual 85, 3) := dk_182 0 85 (dk_at dksX1_record_2 7 rfl rfl)
theorem dX1_record_55 : decode cX1_record 55 = .ok (.checkcast 183, 3) := dk_192 0 183 (dk_at dksX1_record_2 10 rfl rfl)
theorem dX1_record_58 : decode cX1_record 58 = .ok (.invokevirtual 219, 3) := dk_182 0 219 (dk_at dksX1_record_2 13 rfl rfl)
theorem dX1_record_61 : decode cX1_record 61 = .ok (.getfield 134, 3) := dk_180 0 134 (dk_at dksX1_record_2 16 rfl rfl)
theorem dX1_record_64 : decode cX1_record 64 = .ok (.if_icmp .gt 17, 3) := dk_163 0 17 (dk_at dksX1_record_2 19 rfl rfl)
theorem dX1_record_67 : decode cX1_record 67 = .ok (.iload_n 3, 1) := dk_29 (dk_at dksX1_record_2 22 rfl rfl)
theorem dX1_record_68 : decode cX1_record 68 = .ok (.i2l, 1) := dk_133 (dk_at dksX1_record_2 23 rfl rfl)
theorem dX1_record_69 : decode cX1_record 69 = .ok (.ldc2_w 223, 3) := dk_20 0 223 (dk_at dksX1_record_3 0 rfl rfl)
theorem dX1_record_72 : decode cX1_record 72 = .ok (.ldc2_w 225, 3) := dk_20 0 225 (dk_at dksX1_record_3 3 rfl rfl)
theorem dX1_record_75 : decode cX1_record 75 = .ok (.invokestatic 56, 3) := dk_184 0 56 (dk_at dksX1_record_3 6 rfl rfl)
theorem dX1_record_78 : decode cX1_record 78 = .ok (.ifCond .ne 5, 3) := dk_154 0 5 (dk_at dksX1_record_3 9 rfl rfl)
theorem dX1_record_81 : decode cX1_record 81 = .ok (.iconst (-1), 1) := dk_2 (dk_at dksX1_record_3 12 rfl rfl)
theorem dX1_record_82 : decode cX1_record 82 = .ok (.ireturn, 1) := dk_172 (dk_at dksX1_record_3 13 rfl rfl)
theorem dX1_record_83 : decode cX1_record 83 = .ok (.aload_n 0, 1) := dk_42 (dk_at dksX1_record_3 14 rfl rfl)
theorem dX1_record_84 : decode cX1_record 84 = .ok (.getfield 27, 3) := dk_180 0 27 (dk_at dksX1_record_3 15 rfl rfl)
theorem dX1_record_87 : decode cX1_record 87 = .ok (.getfield 179, 3) := dk_180 0 179 (dk_at dksX1_record_3 18 rfl rfl)
theorem dX1_record_90 : decode cX1_record 90 = .ok (.iload_n 1, 1) := dk_27 (dk_at dksX1_record_3 21 rfl rfl)
theorem dX1_record_91 : decode cX1_record 91 = .ok (.invokevirtual 85, 3) := dk_182 0 85 (dk_at dksX1_record_4 0 rfl rfl)
theorem dX1_record_94 : decode cX1_record 94 = .ok (.checkcast 183, 3) := dk_192 0 183 (dk_at dksX1_record_4 3 rfl rfl)
theorem dX1_record_97 : decode cX1_record 97 = .ok (.invokevirtual 200, 3) := dk_182 0 200 (dk_at dksX1_record_4 6 rfl rfl)
theorem dX1_record_100 : decode cX1_record 100 = .ok (.ifCond .eq 6, 3) := dk_153 0 6 (dk_at dksX1_record_4 9 rfl rfl)
theorem dX1_record_103 : decode cX1_record 103 = .ok (.bipush (-2), 2) := dk_16 254 (dk_at dksX1_record_4 12 rfl rfl)
theorem dX1_record_105 : decode cX1_record 105 = .ok (.ireturn, 1) := dk_172 (dk_at dksX1_record_4 14 rfl rfl)
theorem dX1_record_106 : decode cX1_record 106 = .ok (.aload_n 0, 1) := dk_42 (dk_at dksX1_record_4 15 rfl rfl)
theorem dX1_record_107 : decode cX1_record 107 = .ok (.getfield 27, 3) := dk_180 0 27 (dk_at dksX1_record_4 16 rfl rfl)
theorem dX1_record_110 : decode cX1_record 110 = .ok (.getfield 179, 3) := dk_180 0 179 (dk_at dksX1_record_4 19 rfl rfl)
theorem dX1_record_113 : decode cX1_record 113 = .ok (.iload_n 1, 1) := dk_27 (dk_at dksX1_record_4 22 rfl rfl)
theorem dX1_record_114 : decode cX1_record 114 = .ok (.invokevirtual 85, 3) := dk_182 0 85 (dk_at dksX1_record_5 0 rfl rfl)
theorem dX1_record_117 : decode cX1_record 117 = .ok (.checkcast 183, 3) := dk_192 0 183 (dk_at dksX1_record_5 3 rfl rfl)
theorem dX1_record_120 : decode cX1_record 120 = .ok (.getfield 227, 3) := dk_180 0 227 (dk_at dksX1_record_5 6 rfl rfl)
theorem dX1_record_123 : decode cX1_record 123 = .ok (.bipush 8, 2) := dk_16 8 (dk_at dksX1_record_5 9 rfl rfl)
theorem dX1_record_125 : decode cX1_record 125 = .ok (.if_icmp .ne 6, 3) := dk_160 0 6 (dk_at dksX1_record_5 11 rfl rfl)
theorem dX1_record_128 : decode cX1_record 128 = .ok (.bipush (-3), 2) := dk_16 253 (dk_at dksX1_record_5 14 rfl rfl)
theorem dX1_record_130 : decode cX1_record 130 = .ok (.ireturn, 1) := dk_172 (dk_at dksX1_record_5 16 rfl rfl)
theorem dX1_record_131 : decode cX1_record 131 = .ok (.aload_n 0, 1) := dk_42 (dk_at dksX1_record_5 17 rfl rfl)
theorem dX1_record_132 : decode cX1_record 132 = .ok (.invokevirtual 207, 3) := dk_182 0 207 (dk_at dksX1_record_5 18 rfl rfl)
theorem dX1_record_135 : decode cX1_record 135 = .ok (.aload_n 0, 1) := dk_42 (dk_at dksX1_record_5 21 rfl rfl)
theorem dX1_record_136 : decode cX1_record 136 = .ok (.getfield 27, 3) := dk_180 0 27 (dk_at dksX1_record_6 0 rfl rfl)
theorem dX1_record_139 : decode cX1_record 139 = .ok (.getfield 179, 3) := dk_180 0 179 (dk_at dksX1_record_6 3 rfl rfl)
theorem dX1_record_142 : decode cX1_record 142 = .ok (.iload_n 1, 1) := dk_27 (dk_at dksX1_record_6 6 rfl rfl)
theorem dX1_record_143 : decode cX1_record 143 = .ok (.invokevirtual 85, 3) := dk_182 0 85 (dk_at dksX1_record_6 7 rfl rfl)
theorem dX1_record_146 : decode cX1_record 146 = .ok (.checkcast 183, 3) := dk_192 0 183 (dk_at dksX1_record_6 10 rfl rfl)
theorem dX1_record_149 : decode cX1_record 149 = .ok (.astore 5, 2) := dk_58 5 (dk_at dksX1_record_6 13 rfl rfl)
theorem dX1_record_151 : decode cX1_record 151 = .ok (.aload 5, 2) := dk_25 5 (dk_at dksX1_record_6 15 rfl rfl)
theorem dX1_record_153 : decode cX1_record 153 = .ok (.getfield 230, 3) := dk_180 0 230 (dk_at dksX1_record_6 17 rfl rfl)
theorem dX1_record_156 : decode cX1_record 156 = .ok (.aload 5, 2) := dk_25 5 (dk_at dksX1_record_6 20 rfl rfl)
theorem dX1_record_158 : decode cX1_record 158 = .ok (.getfield 227, 3) := dk_180 0 227 (dk_at dksX1_record_7 0 rfl rfl)
theorem dX1_record_161 : decode cX1_record 161 = .ok (.iload_n 2, 1) := dk_28 (dk_at dksX1_record_7 3 rfl rfl)
theorem dX1_record_162 : decode cX1_record 162 = .ok (.iastore, 1) := dk_79 (dk_at dksX1_record_7 4 rfl rfl)
theorem dX1_record_163 : decode cX1_record 163 = .ok (.aload 5, 2) := dk_25 5 (dk_at dksX1_record_7 5 rfl rfl)
theorem dX1_record_165 : decode cX1_record 165 = .ok (.getfield 231, 3) := dk_180 0 231 (dk_at dksX1_record_7 7 rfl rfl)
theorem dX1_record_168 : decode cX1_record 168 = .ok (.aload 5, 2) := dk_25 5 (dk_at dksX1_record_7 10 rfl rfl)
theorem dX1_record_170 : decode cX1_record 170 = .ok (.getfield 227, 3) := dk_180 0 227 (dk_at dksX1_record_7 12 rfl rfl)
theorem dX1_record_173 : decode cX1_record 173 = .ok (.iload_n 3, 1) := dk_29 (dk_at dksX1_record_7 15 rfl rfl)
theorem dX1_record_174 : decode cX1_record 174 = .ok (.iload 4, 2) := dk_21 4 (dk_at dksX1_record_7 16 rfl rfl)
theorem dX1_record_176 : decode cX1_record 176 = .ok (.isub, 1) := dk_100 (dk_at dksX1_record_7 18 rfl rfl)
theorem dX1_record_177 : decode cX1_record 177 = .ok (.iastore, 1) := dk_79 (dk_at dksX1_record_7 19 rfl rfl)
theorem dX1_record_178 : decode cX1_record 178 = .ok (.aload 5, 2) := dk_25 5 (dk_at dksX1_record_7 20 rfl rfl)
theorem dX1_record_180 : decode cX1_record 180 = .ok (.dup, 1) := dk_89 (dk_at dksX1_record_7 22 rfl rfl)
theorem dX1_record_181 : decode cX1_record 181 = .ok (.getfield 227, 3) := dk_180 0 227 (dk_at dksX1_record_8 0 rfl rfl)
theorem dX1_record_184 : decode cX1_record 184 = .ok (.iconst 1, 1) := dk_4 (dk_at dksX1_record_8 3 rfl rfl)
theorem dX1_record_185 : decode cX1_record 185 = .ok (.iadd, 1) := dk_96 (dk_at dksX1_record_8 4 rfl rfl)
theorem dX1_record_186 : decode cX1_record 186 = .ok (.putfield 227, 3) := dk_181 0 227 (dk_at dksX1_record_8 5 rfl rfl)
theorem dX1_record_189 : decode cX1_record 189 = .ok (.aload 5, 2) := dk_25 5 (dk_at dksX1_record_8 8 rfl rfl)
theorem dX1_record_191 : decode cX1_record 191 = .ok (.getfield 227, 3) := dk_180 0 227 (dk_at dksX1_record_8 10 rfl rfl)
theorem dX1_record_194 : decode cX1_record 194 = .ok (.iconst 1, 1) := dk_4 (dk_at dksX1_record_8 13 rfl rfl)
theorem dX1_record_195 : decode cX1_record 195 = .ok (.isub, 1) := dk_100 (dk_at dksX1_record_8 14 rfl rfl)
theorem dX1_record_196 : decode cX1_record 196 = .ok (.ireturn, 1) := dk_172 (dk_at dksX1_record_8 15 rfl rfl)
abbrev cX1_scaleOf : ByteArray := prog_1_method_25_code
def yX1_scaleOf : MethodName := ⟨RX1, "scaleOf", "(LScaleInspection$Visit;)LScaleInspection$Scale;"⟩
def dkwX1_scaleOf_0 : List UInt8 := [42, 180, 0, 20, 180, 0, 117, 43, 180, 0, 182, 182, 0, 85, 192, 0, 129, 176]
abbrev dktX1_scaleOf_0 : List UInt8 := dkwX1_scaleOf_0 ++ []
theorem dksX1_scaleOf_0 : cX1_scaleOf.data.toList.drop 0 = dktX1_scaleOf_0 := by decide +kernel
theorem dX1_scaleOf_0 : decode cX1_scaleOf 0 = .ok (.aload_n 0, 1) := dk_42 (dk_at dksX1_scaleOf_0 0 rfl rfl)
theorem dX1_scaleOf_1 : decode cX1_scaleOf 1 = .ok (.getfield 20, 3) := dk_180 0 20 (dk_at dksX1_scaleOf_0 1 rfl rfl)
theorem dX1_scaleOf_4 : decode cX1_scaleOf 4 = .ok (.getfield 117, 3) := dk_180 0 117 (dk_at dksX1_scaleOf_0 4 rfl rfl)
theorem dX1_scaleOf_7 : decode cX1_scaleOf 7 = .ok (.aload_n 1, 1) := dk_43 (dk_at dksX1_scaleOf_0 7 rfl rfl)
theorem dX1_scaleOf_8 : decode cX1_scaleOf 8 = .ok (.getfield 182, 3) := dk_180 0 182 (dk_at dksX1_scaleOf_0 8 rfl rfl)
theorem dX1_scaleOf_11 : decode cX1_scaleOf 11 = .ok (.invokevirtual 85, 3) := dk_182 0 85 (dk_at dksX1_scaleOf_0 11 rfl rfl)
theorem dX1_scaleOf_14 : decode cX1_scaleOf 14 = .ok (.checkcast 129, 3) := dk_192 0 129 (dk_at dksX1_scaleOf_0 14 rfl rfl)
theorem dX1_scaleOf_17 : decode cX1_scaleOf 17 = .ok (.areturn, 1) := dk_176 (dk_at dksX1_scaleOf_0 17 rfl rfl)
abbrev cX1_testCount : ByteArray := prog_1_method_32_code
def yX1_testCount : MethodName := ⟨RX1, "testCount", "(I)I"⟩
def dkwX1_testCount_1 : List UInt8 := [180, 0, 227, 167, 0, 4, 2, 172]
abbrev dktX1_testCount_1 : List UInt8 := dkwX1_testCount_1 ++ []
def dkwX1_testCount_0 : List UInt8 := [42, 27, 182, 0, 213, 153, 0, 23, 42, 180, 0, 27, 180, 0, 179, 27, 182, 0, 85, 192, 0, 183]
abbrev dktX1_testCount_0 : List UInt8 := dkwX1_testCount_0 ++ dktX1_testCount_1
theorem dksX1_testCount_0 : cX1_testCount.data.toList.drop 0 = dktX1_testCount_0 := by decide +kernel
theorem dksX1_testCount_1 : cX1_testCount.data.toList.drop 22 = dktX1_testCount_1 := dk_seg dksX1_testCount_0 22 rfl rfl
theorem dX1_testCount_0 : decode cX1_testCount 0 = .ok (.aload_n 0, 1) := dk_42 (dk_at dksX1_testCount_0 0 rfl rfl)
theorem dX1_testCount_1 : decode cX1_testCount 1 = .ok (.iload_n 1, 1) := dk_27 (dk_at dksX1_testCount_0 1 rfl rfl)
theorem dX1_testCount_2 : decode cX1_testCount 2 = .ok (.invokevirtual 213, 3) := dk_182 0 213 (dk_at dksX1_testCount_0 2 rfl rfl)
theorem dX1_testCount_5 : decode cX1_testCount 5 = .ok (.ifCond .eq 23, 3) := dk_153 0 23 (dk_at dksX1_testCount_0 5 rfl rfl)
theorem dX1_testCount_8 : decode cX1_testCount 8 = .ok (.aload_n 0, 1) := dk_42 (dk_at dksX1_testCount_0 8 rfl rfl)
theorem dX1_testCount_9 : decode cX1_testCount 9 = .ok (.getfield 27, 3) := dk_180 0 27 (dk_at dksX1_testCount_0 9 rfl rfl)
theorem dX1_testCount_12 : decode cX1_testCount 12 = .ok (.getfield 179, 3) := dk_180 0 179 (dk_at dksX1_testCount_0 12 rfl rfl)
theorem dX1_testCount_15 : decode cX1_testCount 15 = .ok (.iload_n 1, 1) := dk_27 (dk_at dksX1_testCount_0 15 rfl rfl)
theorem dX1_testCount_16 : decode cX1_testCount 16 = .ok (.invokevirtual 85, 3) := dk_182 0 85 (dk_at dksX1_testCount_0 16 rfl rfl)
theorem dX1_testCount_19 : decode cX1_testCount 19 = .ok (.checkcast 183, 3) := dk_192 0 183 (dk_at dksX1_testCount_0 19 rfl rfl)
theorem dX1_testCount_22 : decode cX1_testCount 22 = .ok (.getfield 227, 3) := dk_180 0 227 (dk_at dksX1_testCount_1 0 rfl rfl)
theorem dX1_testCount_25 : decode cX1_testCount 25 = .ok (.goto 4, 3) := dk_167 0 4 (dk_at dksX1_testCount_1 3 rfl rfl)
theorem dX1_testCount_28 : decode cX1_testCount 28 = .ok (.iconst (-1), 1) := dk_2 (dk_at dksX1_testCount_1 6 rfl rfl)
theorem dX1_testCount_29 : decode cX1_testCount 29 = .ok (.ireturn, 1) := dk_172 (dk_at dksX1_testCount_1 7 rfl rfl)
abbrev cX1_verdict : ByteArray := prog_1_method_44_code
def yX1_verdict : MethodName := ⟨RX1, "verdict", "(I)I"⟩
def dkwX1_verdict_1 : List UInt8 := [182, 1, 5, 167, 0, 4, 2, 172]
abbrev dktX1_verdict_1 : List UInt8 := dkwX1_verdict_1 ++ []
def dkwX1_verdict_0 : List UInt8 := [42, 27, 182, 0, 213, 153, 0, 25, 42, 42, 180, 0, 27, 180, 0, 179, 27, 182, 0, 85, 192, 0, 183, 3]
abbrev dktX1_verdict_0 : List UInt8 := dkwX1_verdict_0 ++ dktX1_verdict_1
theorem dksX1_verdict_0 : cX1_verdict.data.toList.drop 0 = dktX1_verdict_0 := by decide +kernel
theorem dksX1_verdict_1 : cX1_verdict.data.toList.drop 24 = dktX1_verdict_1 := dk_seg dksX1_verdict_0 24 rfl rfl
theorem dX1_verdict_0 : decode cX1_verdict 0 = .ok (.aload_n 0, 1) := dk_42 (dk_at dksX1_verdict_0 0 rfl rfl)
theorem dX1_verdict_1 : decode cX1_verdict 1 = .ok (.iload_n 1, 1) := dk_27 (dk_at dksX1_verdict_0 1 rfl rfl)
theorem dX1_verdict_2 : decode cX1_verdict 2 = .ok (.invokevirtual 213, 3) := dk_182 0 213 (dk_at dksX1_verdict_0 2 rfl rfl)
theorem dX1_verdict_5 : decode cX1_verdict 5 = .ok (.ifCond .eq 25, 3) := dk_153 0 25 (dk_at dksX1_verdict_0 5 rfl rfl)
theorem dX1_verdict_8 : decode cX1_verdict 8 = .ok (.aload_n 0, 1) := dk_42 (dk_at dksX1_verdict_0 8 rfl rfl)
theorem dX1_verdict_9 : decode cX1_verdict 9 = .ok (.aload_n 0, 1) := dk_42 (dk_at dksX1_verdict_0 9 rfl rfl)
theorem dX1_verdict_10 : decode cX1_verdict 10 = .ok (.getfield 27, 3) := dk_180 0 27 (dk_at dksX1_verdict_0 10 rfl rfl)
theorem dX1_verdict_13 : decode cX1_verdict 13 = .ok (.getfield 179, 3) := dk_180 0 179 (dk_at dksX1_verdict_0 13 rfl rfl)
theorem dX1_verdict_16 : decode cX1_verdict 16 = .ok (.iload_n 1, 1) := dk_27 (dk_at dksX1_verdict_0 16 rfl rfl)
theorem dX1_verdict_17 : decode cX1_verdict 17 = .ok (.invokevirtual 85, 3) := dk_182 0 85 (dk_at dksX1_verdict_0 17 rfl rfl)
theorem dX1_verdict_20 : decode cX1_verdict 20 = .ok (.checkcast 183, 3) := dk_192 0 183 (dk_at dksX1_verdict_0 20 rfl rfl)
theorem dX1_verdict_23 : decode cX1_verdict 23 = .ok (.iconst 0, 1) := dk_3 (dk_at dksX1_verdict_0 23 rfl rfl)
theorem dX1_verdict_24 : decode cX1_verdict 24 = .ok (.invokevirtual 261, 3) := dk_182 1 5 (dk_at dksX1_verdict_1 0 rfl rfl)
theorem dX1_verdict_27 : decode cX1_verdict 27 = .ok (.goto 4, 3) := dk_167 0 4 (dk_at dksX1_verdict_1 3 rfl rfl)
theorem dX1_verdict_30 : decode cX1_verdict 30 = .ok (.iconst (-1), 1) := dk_2 (dk_at dksX1_verdict_1 6 rfl rfl)
theorem dX1_verdict_31 : decode cX1_verdict 31 = .ok (.ireturn, 1) := dk_172 (dk_at dksX1_verdict_1 7 rfl rfl)
abbrev cX1_verdictOf : ByteArray := prog_1_method_43_code
def yX1_verdictOf : MethodName := ⟨RX1, "verdictOf", "(LScaleInspection$Visit;I)I"⟩
def dkwX1_verdictOf_3 : List UInt8 := [167, 0, 4, 8, 172]
abbrev dktX1_verdictOf_3 : List UInt8 := dkwX1_verdictOf_3 ++ []
def dkwX1_verdictOf_2 : List UInt8 := [182, 0, 244, 154, 0, 5, 7, 172, 132, 3, 1, 167, 255, 233, 42, 43, 182, 1, 2, 153, 0, 7, 3]
abbrev dktX1_verdictOf_2 : List UInt8 := dkwX1_verdictOf_2 ++ dktX1_verdictOf_3
def dkwX1_verdictOf_1 : List UInt8 := [182, 0, 255, 154, 0, 5, 6, 172, 3, 62, 29, 43, 180, 0, 227, 162, 0, 21, 42, 43, 29, 28]
abbrev dktX1_verdictOf_1 : List UInt8 := dkwX1_verdictOf_1 ++ dktX1_verdictOf_2
def dkwX1_verdictOf_0 : List UInt8 := [42, 43, 182, 0, 248, 154, 0, 5, 4, 172, 42, 43, 182, 0, 252, 154, 0, 5, 5, 172, 42, 43]
abbrev dktX1_verdictOf_0 : List UInt8 := dkwX1_verdictOf_0 ++ dktX1_verdictOf_1
theorem dksX1_verdictOf_0 : cX1_verdictOf.data.toList.drop 0 = dktX1_verdictOf_0 := by decide +kernel
theorem dksX1_verdictOf_1 : cX1_verdictOf.data.toList.drop 22 = dktX1_verdictOf_1 := dk_seg dksX1_verdictOf_0 22 rfl rfl
theorem dksX1_verdictOf_2 : cX1_verdictOf.data.toList.drop 44 = dktX1_verdictOf_2 := dk_seg dksX1_verdictOf_1 22 rfl rfl
theorem dksX1_verdictOf_3 : cX1_verdictOf.data.toList.drop 67 = dktX1_verdictOf_3 := dk_seg dksX1_verdictOf_2 23 rfl rfl
theorem dX1_verdictOf_0 : decode cX1_verdictOf 0 = .ok (.aload_n 0, 1) := dk_42 (dk_at dksX1_verdictOf_0 0 rfl rfl)
theorem dX1_verdictOf_1 : decode cX1_verdictOf 1 = .ok (.aload_n 1, 1) := dk_43 (dk_at dksX1_verdictOf_0 1 rfl rfl)
theorem dX1_verdictOf_2 : decode cX1_verdictOf 2 = .ok (.invokevirtual 248, 3) := dk_182 0 248 (dk_at dksX1_verdictOf_0 2 rfl rfl)
theorem dX1_verdictOf_5 : decode cX1_verdictOf 5 = .ok (.ifCond .ne 5, 3) := dk_154 0 5 (dk_at dksX1_verdictOf_0 5 rfl rfl)
theorem dX1_verdictOf_8 : decode cX1_verdictOf 8 = .ok (.iconst 1, 1) := dk_4 (dk_at dksX1_verdictOf_0 8 rfl rfl)
theorem dX1_verdictOf_9 : decode cX1_verdictOf 9 = .ok (.ireturn, 1) := dk_172 (dk_at dksX1_verdictOf_0 9 rfl rfl)
theorem dX1_verdictOf_10 : decode cX1_verdictOf 10 = .ok (.aload_n 0, 1) := dk_42 (dk_at dksX1_verdictOf_0 10 rfl rfl)
theorem dX1_verdictOf_11 : decode cX1_verdictOf 11 = .ok (.aload_n 1, 1) := dk_43 (dk_at dksX1_verdictOf_0 11 rfl rfl)
theorem dX1_verdictOf_12 : decode cX1_verdictOf 12 = .ok (.invokevirtual 252, 3) := dk_182 0 252 (dk_at dksX1_verdictOf_0 12 rfl rfl)
theorem dX1_verdictOf_15 : decode cX1_verdictOf 15 = .ok (.ifCond .ne 5, 3) := dk_154 0 5 (dk_at dksX1_verdictOf_0 15 rfl rfl)
theorem dX1_verdictOf_18 : decode cX1_verdictOf 18 = .ok (.iconst 2, 1) := dk_5 (dk_at dksX1_verdictOf_0 18 rfl rfl)
theorem dX1_verdictOf_19 : decode cX1_verdictOf 19 = .ok (.ireturn, 1) := dk_172 (dk_at dksX1_verdictOf_0 19 rfl rfl)
theorem dX1_verdictOf_20 : decode cX1_verdictOf 20 = .ok (.aload_n 0, 1) := dk_42 (dk_at dksX1_verdictOf_0 20 rfl rfl)
theorem dX1_verdictOf_21 : decode cX1_verdictOf 21 = .ok (.aload_n 1, 1) := dk_43 (dk_at dksX1_verdictOf_0 21 rfl rfl)
theorem dX1_verdictOf_22 : decode cX1_verdictOf 22 = .ok (.invokevirtual 255, 3) := dk_182 0 255 (dk_at dksX1_verdictOf_1 0 rfl rfl)
theorem dX1_verdictOf_25 : decode cX1_verdictOf 25 = .ok (.ifCond .ne 5, 3) := dk_154 0 5 (dk_at dksX1_verdictOf_1 3 rfl rfl)
theorem dX1_verdictOf_28 : decode cX1_verdictOf 28 = .ok (.iconst 3, 1) := dk_6 (dk_at dksX1_verdictOf_1 6 rfl rfl)
theorem dX1_verdictOf_29 : decode cX1_verdictOf 29 = .ok (.ireturn, 1) := dk_172 (dk_at dksX1_verdictOf_1 7 rfl rfl)
theorem dX1_verdictOf_30 : decode cX1_verdictOf 30 = .ok (.iconst 0, 1) := dk_3 (dk_at dksX1_verdictOf_1 8 rfl rfl)
theorem dX1_verdictOf_31 : decode cX1_verdictOf 31 = .ok (.istore_n 3, 1) := dk_62 (dk_at dksX1_verdictOf_1 9 rfl rfl)
theorem dX1_verdictOf_32 : decode cX1_verdictOf 32 = .ok (.iload_n 3, 1) := dk_29 (dk_at dksX1_verdictOf_1 10 rfl rfl)
theorem dX1_verdictOf_33 : decode cX1_verdictOf 33 = .ok (.aload_n 1, 1) := dk_43 (dk_at dksX1_verdictOf_1 11 rfl rfl)
theorem dX1_verdictOf_34 : decode cX1_verdictOf 34 = .ok (.getfield 227, 3) := dk_180 0 227 (dk_at dksX1_verdictOf_1 12 rfl rfl)
theorem dX1_verdictOf_37 : decode cX1_verdictOf 37 = .ok (.if_icmp .ge 21, 3) := dk_162 0 21 (dk_at dksX1_verdictOf_1 15 rfl rfl)
theorem dX1_verdictOf_40 : decode cX1_verdictOf 40 = .ok (.aload_n 0, 1) := dk_42 (dk_at dksX1_verdictOf_1 18 rfl rfl)
theorem dX1_verdictOf_41 : decode cX1_verdictOf 41 = .ok (.aload_n 1, 1) := dk_43 (dk_at dksX1_verdictOf_1 19 rfl rfl)
theorem dX1_verdictOf_42 : decode cX1_verdictOf 42 = .ok (.iload_n 3, 1) := dk_29 (dk_at dksX1_verdictOf_1 20 rfl rfl)
theorem dX1_verdictOf_43 : decode cX1_verdictOf 43 = .ok (.iload_n 2, 1) := dk_28 (dk_at dksX1_verdictOf_1 21 rfl rfl)
theorem dX1_verdictOf_44 : decode cX1_verdictOf 44 = .ok (.invokevirtual 244, 3) := dk_182 0 244 (dk_at dksX1_verdictOf_2 0 rfl rfl)
theorem dX1_verdictOf_47 : decode cX1_verdictOf 47 = .ok (.ifCond .ne 5, 3) := dk_154 0 5 (dk_at dksX1_verdictOf_2 3 rfl rfl)
theorem dX1_verdictOf_50 : decode cX1_verdictOf 50 = .ok (.iconst 4, 1) := dk_7 (dk_at dksX1_verdictOf_2 6 rfl rfl)
theorem dX1_verdictOf_51 : decode cX1_verdictOf 51 = .ok (.ireturn, 1) := dk_172 (dk_at dksX1_verdictOf_2 7 rfl rfl)
theorem dX1_verdictOf_52 : decode cX1_verdictOf 52 = .ok (.iinc 3 1, 3) := dk_132 3 1 (dk_at dksX1_verdictOf_2 8 rfl rfl)
theorem dX1_verdictOf_55 : decode cX1_verdictOf 55 = .ok (.goto (-23), 3) := dk_167 255 233 (dk_at dksX1_verdictOf_2 11 rfl rfl)
theorem dX1_verdictOf_58 : decode cX1_verdictOf 58 = .ok (.aload_n 0, 1) := dk_42 (dk_at dksX1_verdictOf_2 14 rfl rfl)
theorem dX1_verdictOf_59 : decode cX1_verdictOf 59 = .ok (.aload_n 1, 1) := dk_43 (dk_at dksX1_verdictOf_2 15 rfl rfl)
theorem dX1_verdictOf_60 : decode cX1_verdictOf 60 = .ok (.invokevirtual 258, 3) := dk_182 1 2 (dk_at dksX1_verdictOf_2 16 rfl rfl)
theorem dX1_verdictOf_63 : decode cX1_verdictOf 63 = .ok (.ifCond .eq 7, 3) := dk_153 0 7 (dk_at dksX1_verdictOf_2 19 rfl rfl)
theorem dX1_verdictOf_66 : decode cX1_verdictOf 66 = .ok (.iconst 0, 1) := dk_3 (dk_at dksX1_verdictOf_2 22 rfl rfl)
theorem dX1_verdictOf_67 : decode cX1_verdictOf 67 = .ok (.goto 4, 3) := dk_167 0 4 (dk_at dksX1_verdictOf_3 0 rfl rfl)
theorem dX1_verdictOf_70 : decode cX1_verdictOf 70 = .ok (.iconst 5, 1) := dk_8 (dk_at dksX1_verdictOf_3 3 rfl rfl)
theorem dX1_verdictOf_71 : decode cX1_verdictOf 71 = .ok (.ireturn, 1) := dk_172 (dk_at dksX1_verdictOf_3 4 rfl rfl)
abbrev cX1_hasEmptyTest : ByteArray := prog_1_method_40_code
def yX1_hasEmptyTest : MethodName := ⟨RX1, "hasEmptyTest", "(LScaleInspection$Visit;)Z"⟩
def dkwX1_hasEmptyTest_1 : List UInt8 := [167, 255, 234, 3, 172]
abbrev dktX1_hasEmptyTest_1 : List UInt8 := dkwX1_hasEmptyTest_1 ++ []
def dkwX1_hasEmptyTest_0 : List UInt8 := [3, 61, 28, 43, 180, 0, 227, 162, 0, 20, 43, 180, 0, 230, 28, 46, 154, 0, 5, 4, 172, 132, 2, 1]
abbrev dktX1_hasEmptyTest_0 : List UInt8 := dkwX1_hasEmptyTest_0 ++ dktX1_hasEmptyTest_1
theorem dksX1_hasEmptyTest_0 : cX1_hasEmptyTest.data.toList.drop 0 = dktX1_hasEmptyTest_0 := by decide +kernel
theorem dksX1_hasEmptyTest_1 : cX1_hasEmptyTest.data.toList.drop 24 = dktX1_hasEmptyTest_1 := dk_seg dksX1_hasEmptyTest_0 24 rfl rfl
theorem dX1_hasEmptyTest_0 : decode cX1_hasEmptyTest 0 = .ok (.iconst 0, 1) := dk_3 (dk_at dksX1_hasEmptyTest_0 0 rfl rfl)
theorem dX1_hasEmptyTest_1 : decode cX1_hasEmptyTest 1 = .ok (.istore_n 2, 1) := dk_61 (dk_at dksX1_hasEmptyTest_0 1 rfl rfl)
theorem dX1_hasEmptyTest_2 : decode cX1_hasEmptyTest 2 = .ok (.iload_n 2, 1) := dk_28 (dk_at dksX1_hasEmptyTest_0 2 rfl rfl)
theorem dX1_hasEmptyTest_3 : decode cX1_hasEmptyTest 3 = .ok (.aload_n 1, 1) := dk_43 (dk_at dksX1_hasEmptyTest_0 3 rfl rfl)
theorem dX1_hasEmptyTest_4 : decode cX1_hasEmptyTest 4 = .ok (.getfield 227, 3) := dk_180 0 227 (dk_at dksX1_hasEmptyTest_0 4 rfl rfl)
theorem dX1_hasEmptyTest_7 : decode cX1_hasEmptyTest 7 = .ok (.if_icmp .ge 20, 3) := dk_162 0 20 (dk_at dksX1_hasEmptyTest_0 7 rfl rfl)
theorem dX1_hasEmptyTest_10 : decode cX1_hasEmptyTest 10 = .ok (.aload_n 1, 1) := dk_43 (dk_at dksX1_hasEmptyTest_0 10 rfl rfl)
theorem dX1_hasEmptyTest_11 : decode cX1_hasEmptyTest 11 = .ok (.getfield 230, 3) := dk_180 0 230 (dk_at dksX1_hasEmptyTest_0 11 rfl rfl)
theorem dX1_hasEmptyTest_14 : decode cX1_hasEmptyTest 14 = .ok (.iload_n 2, 1) := dk_28 (dk_at dksX1_hasEmptyTest_0 14 rfl rfl)
theorem dX1_hasEmptyTest_15 : decode cX1_hasEmptyTest 15 = .ok (.iaload, 1) := dk_46 (dk_at dksX1_hasEmptyTest_0 15 rfl rfl)
theorem dX1_hasEmptyTest_16 : decode cX1_hasEmptyTest 16 = .ok (.ifCond .ne 5, 3) := dk_154 0 5 (dk_at dksX1_hasEmptyTest_0 16 rfl rfl)
theorem dX1_hasEmptyTest_19 : decode cX1_hasEmptyTest 19 = .ok (.iconst 1, 1) := dk_4 (dk_at dksX1_hasEmptyTest_0 19 rfl rfl)
theorem dX1_hasEmptyTest_20 : decode cX1_hasEmptyTest 20 = .ok (.ireturn, 1) := dk_172 (dk_at dksX1_hasEmptyTest_0 20 rfl rfl)
theorem dX1_hasEmptyTest_21 : decode cX1_hasEmptyTest 21 = .ok (.iinc 2 1, 3) := dk_132 2 1 (dk_at dksX1_hasEmptyTest_0 21 rfl rfl)
theorem dX1_hasEmptyTest_24 : decode cX1_hasEmptyTest 24 = .ok (.goto (-22), 3) := dk_167 255 234 (dk_at dksX1_hasEmptyTest_1 0 rfl rfl)
theorem dX1_hasEmptyTest_27 : decode cX1_hasEmptyTest 27 = .ok (.iconst 0, 1) := dk_3 (dk_at dksX1_hasEmptyTest_1 3 rfl rfl)
theorem dX1_hasEmptyTest_28 : decode cX1_hasEmptyTest 28 = .ok (.ireturn, 1) := dk_172 (dk_at dksX1_hasEmptyTest_1 4 rfl rfl)
abbrev cX1_hasHighLoad : ByteArray := prog_1_method_39_code
def yX1_hasHighLoad : MethodName := ⟨RX1, "hasHighLoad", "(LScaleInspection$Visit;)Z"⟩
def dkwX1_hasHighLoad_1 : List UInt8 := [104, 42, 43, 182, 0, 219, 180, 0, 134, 161, 0, 5, 4, 172, 132, 2, 1, 167, 255, 217, 3, 172]
abbrev dktX1_hasHighLoad_1 : List UInt8 := dkwX1_hasHighLoad_1 ++ []
def dkwX1_hasHighLoad_0 : List UInt8 := [3, 61, 28, 43, 180, 0, 227, 162, 0, 37, 5, 42, 180, 0, 20, 43, 180, 0, 230, 28, 46, 182, 0, 151]
abbrev dktX1_hasHighLoad_0 : List UInt8 := dkwX1_hasHighLoad_0 ++ dktX1_hasHighLoad_1
theorem dksX1_hasHighLoad_0 : cX1_hasHighLoad.data.toList.drop 0 = dktX1_hasHighLoad_0 := by decide +kernel
theorem dksX1_hasHighLoad_1 : cX1_hasHighLoad.data.toList.drop 24 = dktX1_hasHighLoad_1 := dk_seg dksX1_hasHighLoad_0 24 rfl rfl
theorem dX1_hasHighLoad_0 : decode cX1_hasHighLoad 0 = .ok (.iconst 0, 1) := dk_3 (dk_at dksX1_hasHighLoad_0 0 rfl rfl)
theorem dX1_hasHighLoad_1 : decode cX1_hasHighLoad 1 = .ok (.istore_n 2, 1) := dk_61 (dk_at dksX1_hasHighLoad_0 1 rfl rfl)
theorem dX1_hasHighLoad_2 : decode cX1_hasHighLoad 2 = .ok (.iload_n 2, 1) := dk_28 (dk_at dksX1_hasHighLoad_0 2 rfl rfl)
theorem dX1_hasHighLoad_3 : decode cX1_hasHighLoad 3 = .ok (.aload_n 1, 1) := dk_43 (dk_at dksX1_hasHighLoad_0 3 rfl rfl)
theorem dX1_hasHighLoad_4 : decode cX1_hasHighLoad 4 = .ok (.getfield 227, 3) := dk_180 0 227 (dk_at dksX1_hasHighLoad_0 4 rfl rfl)
theorem dX1_hasHighLoad_7 : decode cX1_hasHighLoad 7 = .ok (.if_icmp .ge 37, 3) := dk_162 0 37 (dk_at dksX1_hasHighLoad_0 7 rfl rfl)
theorem dX1_hasHighLoad_10 : decode cX1_hasHighLoad 10 = .ok (.iconst 2, 1) := dk_5 (dk_at dksX1_hasHighLoad_0 10 rfl rfl)
theorem dX1_hasHighLoad_11 : decode cX1_hasHighLoad 11 = .ok (.aload_n 0, 1) := dk_42 (dk_at dksX1_hasHighLoad_0 11 rfl rfl)
theorem dX1_hasHighLoad_12 : decode cX1_hasHighLoad 12 = .ok (.getfield 20, 3) := dk_180 0 20 (dk_at dksX1_hasHighLoad_0 12 rfl rfl)
theorem dX1_hasHighLoad_15 : decode cX1_hasHighLoad 15 = .ok (.aload_n 1, 1) := dk_43 (dk_at dksX1_hasHighLoad_0 15 rfl rfl)
theorem dX1_hasHighLoad_16 : decode cX1_hasHighLoad 16 = .ok (.getfield 230, 3) := dk_180 0 230 (dk_at dksX1_hasHighLoad_0 16 rfl rfl)
theorem dX1_hasHighLoad_19 : decode cX1_hasHighLoad 19 = .ok (.iload_n 2, 1) := dk_28 (dk_at dksX1_hasHighLoad_0 19 rfl rfl)
theorem dX1_hasHighLoad_20 : decode cX1_hasHighLoad 20 = .ok (.iaload, 1) := dk_46 (dk_at dksX1_hasHighLoad_0 20 rfl rfl)
theorem dX1_hasHighLoad_21 : decode cX1_hasHighLoad 21 = .ok (.invokevirtual 151, 3) := dk_182 0 151 (dk_at dksX1_hasHighLoad_0 21 rfl rfl)
theorem dX1_hasHighLoad_24 : decode cX1_hasHighLoad 24 = .ok (.imul, 1) := dk_104 (dk_at dksX1_hasHighLoad_1 0 rfl rfl)
theorem dX1_hasHighLoad_25 : decode cX1_hasHighLoad 25 = .ok (.aload_n 0, 1) := dk_42 (dk_at dksX1_hasHighLoad_1 1 rfl rfl)
theorem dX1_hasHighLoad_26 : decode cX1_hasHighLoad 26 = .ok (.aload_n 1, 1) := dk_43 (dk_at dksX1_hasHighLoad_1 2 rfl rfl)
theorem dX1_hasHighLoad_27 : decode cX1_hasHighLoad 27 = .ok (.invokevirtual 219, 3) := dk_182 0 219 (dk_at dksX1_hasHighLoad_1 3 rfl rfl)
theorem dX1_hasHighLoad_30 : decode cX1_hasHighLoad 30 = .ok (.getfield 134, 3) := dk_180 0 134 (dk_at dksX1_hasHighLoad_1 6 rfl rfl)
theorem dX1_hasHighLoad_33 : decode cX1_hasHighLoad 33 = .ok (.if_icmp .lt 5, 3) := dk_161 0 5 (dk_at dksX1_hasHighLoad_1 9 rfl rfl)
theorem dX1_hasHighLoad_36 : decode cX1_hasHighLoad 36 = .ok (.iconst 1, 1) := dk_4 (dk_at dksX1_hasHighLoad_1 12 rfl rfl)
theorem dX1_hasHighLoad_37 : decode cX1_hasHighLoad 37 = .ok (.ireturn, 1) := dk_172 (dk_at dksX1_hasHighLoad_1 13 rfl rfl)
theorem dX1_hasHighLoad_38 : decode cX1_hasHighLoad 38 = .ok (.iinc 2 1, 3) := dk_132 2 1 (dk_at dksX1_hasHighLoad_1 14 rfl rfl)
theorem dX1_hasHighLoad_41 : decode cX1_hasHighLoad 41 = .ok (.goto (-39), 3) := dk_167 255 217 (dk_at dksX1_hasHighLoad_1 17 rfl rfl)
theorem dX1_hasHighLoad_44 : decode cX1_hasHighLoad 44 = .ok (.iconst 0, 1) := dk_3 (dk_at dksX1_hasHighLoad_1 20 rfl rfl)
theorem dX1_hasHighLoad_45 : decode cX1_hasHighLoad 45 = .ok (.ireturn, 1) := dk_172 (dk_at dksX1_hasHighLoad_1 21 rfl rfl)
abbrev cX1_hasRepeated : ByteArray := prog_1_method_41_code
def yX1_hasRepeated : MethodName := ⟨RX1, "hasRepeated", "(LScaleInspection$Visit;)Z"⟩
def dkwX1_hasRepeated_2 : List UInt8 := [167, 255, 222, 132, 2, 1, 167, 255, 206, 3, 172]
abbrev dktX1_hasRepeated_2 : List UInt8 := dkwX1_hasRepeated_2 ++ []
def dkwX1_hasRepeated_1 : List UInt8 := [180, 0, 230, 28, 46, 160, 0, 14, 43, 180, 0, 230, 28, 46, 153, 0, 5, 4, 172, 132, 3, 1]
abbrev dktX1_hasRepeated_1 : List UInt8 := dkwX1_hasRepeated_1 ++ dktX1_hasRepeated_2
def dkwX1_hasRepeated_0 : List UInt8 := [3, 61, 28, 43, 180, 0, 227, 162, 0, 48, 3, 62, 29, 28, 162, 0, 35, 43, 180, 0, 230, 29, 46, 43]
abbrev dktX1_hasRepeated_0 : List UInt8 := dkwX1_hasRepeated_0 ++ dktX1_hasRepeated_1
theorem dksX1_hasRepeated_0 : cX1_hasRepeated.data.toList.drop 0 = dktX1_hasRepeated_0 := by decide +kernel
theorem dksX1_hasRepeated_1 : cX1_hasRepeated.data.toList.drop 24 = dktX1_hasRepeated_1 := dk_seg dksX1_hasRepeated_0 24 rfl rfl
theorem dksX1_hasRepeated_2 : cX1_hasRepeated.data.toList.drop 46 = dktX1_hasRepeated_2 := dk_seg dksX1_hasRepeated_1 22 rfl rfl
theorem dX1_hasRepeated_0 : decode cX1_hasRepeated 0 = .ok (.iconst 0, 1) := dk_3 (dk_at dksX1_hasRepeated_0 0 rfl rfl)
theorem dX1_hasRepeated_1 : decode cX1_hasRepeated 1 = .ok (.istore_n 2, 1) := dk_61 (dk_at dksX1_hasRepeated_0 1 rfl rfl)
theorem dX1_hasRepeated_2 : decode cX1_hasRepeated 2 = .ok (.iload_n 2, 1) := dk_28 (dk_at dksX1_hasRepeated_0 2 rfl rfl)
theorem dX1_hasRepeated_3 : decode cX1_hasRepeated 3 = .ok (.aload_n 1, 1) := dk_43 (dk_at dksX1_hasRepeated_0 3 rfl rfl)
theorem dX1_hasRepeated_4 : decode cX1_hasRepeated 4 = .ok (.getfield 227, 3) := dk_180 0 227 (dk_at dksX1_hasRepeated_0 4 rfl rfl)
theorem dX1_hasRepeated_7 : decode cX1_hasRepeated 7 = .ok (.if_icmp .ge 48, 3) := dk_162 0 48 (dk_at dksX1_hasRepeated_0 7 rfl rfl)
theorem dX1_hasRepeated_10 : decode cX1_hasRepeated 10 = .ok (.iconst 0, 1) := dk_3 (dk_at dksX1_hasRepeated_0 10 rfl rfl)
theorem dX1_hasRepeated_11 : decode cX1_hasRepeated 11 = .ok (.istore_n 3, 1) := dk_62 (dk_at dksX1_hasRepeated_0 11 rfl rfl)
theorem dX1_hasRepeated_12 : decode cX1_hasRepeated 12 = .ok (.iload_n 3, 1) := dk_29 (dk_at dksX1_hasRepeated_0 12 rfl rfl)
theorem dX1_hasRepeated_13 : decode cX1_hasRepeated 13 = .ok (.iload_n 2, 1) := dk_28 (dk_at dksX1_hasRepeated_0 13 rfl rfl)
theorem dX1_hasRepeated_14 : decode cX1_hasRepeated 14 = .ok (.if_icmp .ge 35, 3) := dk_162 0 35 (dk_at dksX1_hasRepeated_0 14 rfl rfl)
theorem dX1_hasRepeated_17 : decode cX1_hasRepeated 17 = .ok (.aload_n 1, 1) := dk_43 (dk_at dksX1_hasRepeated_0 17 rfl rfl)
theorem dX1_hasRepeated_18 : decode cX1_hasRepeated 18 = .ok (.getfield 230, 3) := dk_180 0 230 (dk_at dksX1_hasRepeated_0 18 rfl rfl)
theorem dX1_hasRepeated_21 : decode cX1_hasRepeated 21 = .ok (.iload_n 3, 1) := dk_29 (dk_at dksX1_hasRepeated_0 21 rfl rfl)
theorem dX1_hasRepeated_22 : decode cX1_hasRepeated 22 = .ok (.iaload, 1) := dk_46 (dk_at dksX1_hasRepeated_0 22 rfl rfl)
theorem dX1_hasRepeated_23 : decode cX1_hasRepeated 23 = .ok (.aload_n 1, 1) := dk_43 (dk_at dksX1_hasRepeated_0 23 rfl rfl)
theorem dX1_hasRepeated_24 : decode cX1_hasRepeated 24 = .ok (.getfield 230, 3) := dk_180 0 230 (dk_at dksX1_hasRepeated_1 0 rfl rfl)
theorem dX1_hasRepeated_27 : decode cX1_hasRepeated 27 = .ok (.iload_n 2, 1) := dk_28 (dk_at dksX1_hasRepeated_1 3 rfl rfl)
theorem dX1_hasRepeated_28 : decode cX1_hasRepeated 28 = .ok (.iaload, 1) := dk_46 (dk_at dksX1_hasRepeated_1 4 rfl rfl)
theorem dX1_hasRepeated_29 : decode cX1_hasRepeated 29 = .ok (.if_icmp .ne 14, 3) := dk_160 0 14 (dk_at dksX1_hasRepeated_1 5 rfl rfl)
theorem dX1_hasRepeated_32 : decode cX1_hasRepeated 32 = .ok (.aload_n 1, 1) := dk_43 (dk_at dksX1_hasRepeated_1 8 rfl rfl)
theorem dX1_hasRepeated_33 : decode cX1_hasRepeated 33 = .ok (.getfield 230, 3) := dk_180 0 230 (dk_at dksX1_hasRepeated_1 9 rfl rfl)
theorem dX1_hasRepeated_36 : decode cX1_hasRepeated 36 = .ok (.iload_n 2, 1) := dk_28 (dk_at dksX1_hasRepeated_1 12 rfl rfl)
theorem dX1_hasRepeated_37 : decode cX1_hasRepeated 37 = .ok (.iaload, 1) := dk_46 (dk_at dksX1_hasRepeated_1 13 rfl rfl)
theorem dX1_hasRepeated_38 : decode cX1_hasRepeated 38 = .ok (.ifCond .eq 5, 3) := dk_153 0 5 (dk_at dksX1_hasRepeated_1 14 rfl rfl)
theorem dX1_hasRepeated_41 : decode cX1_hasRepeated 41 = .ok (.iconst 1, 1) := dk_4 (dk_at dksX1_hasRepeated_1 17 rfl rfl)
theorem dX1_hasRepeated_42 : decode cX1_hasRepeated 42 = .ok (.ireturn, 1) := dk_172 (dk_at dksX1_hasRepeated_1 18 rfl rfl)
theorem dX1_hasRepeated_43 : decode cX1_hasRepeated 43 = .ok (.iinc 3 1, 3) := dk_132 3 1 (dk_at dksX1_hasRepeated_1 19 rfl rfl)
theorem dX1_hasRepeated_46 : decode cX1_hasRepeated 46 = .ok (.goto (-34), 3) := dk_167 255 222 (dk_at dksX1_hasRepeated_2 0 rfl rfl)
theorem dX1_hasRepeated_49 : decode cX1_hasRepeated 49 = .ok (.iinc 2 1, 3) := dk_132 2 1 (dk_at dksX1_hasRepeated_2 3 rfl rfl)
theorem dX1_hasRepeated_52 : decode cX1_hasRepeated 52 = .ok (.goto (-50), 3) := dk_167 255 206 (dk_at dksX1_hasRepeated_2 6 rfl rfl)
theorem dX1_hasRepeated_55 : decode cX1_hasRepeated 55 = .ok (.iconst 0, 1) := dk_3 (dk_at dksX1_hasRepeated_2 9 rfl rfl)
theorem dX1_hasRepeated_56 : decode cX1_hasRepeated 56 = .ok (.ireturn, 1) := dk_172 (dk_at dksX1_hasRepeated_2 10 rfl rfl)

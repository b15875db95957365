set_option maxRecDepth 100000
/-! ScaleInspection$Parser -/
abbrev cX5_init : ByteArray := prog_12_method_1_code
def yX5_init : MethodName := ⟨RX5, "<init>", "(LScaleInspection;I)V"⟩
def dkwX5_init_1 : List UInt8 := [181, 0, 22, 42, 42, 3, 182, 0, 26, 181, 0, 30, 177]
abbrev dktX5_init_1 : List UInt8 := dkwX5_init_1 ++ []
def dkwX5_init_0 : List UInt8 := [42, 43, 181, 0, 3, 42, 183, 0, 9, 42, 187, 0, 15, 89, 183, 0, 17, 181, 0, 18, 42, 28]
abbrev dktX5_init_0 : List UInt8 := dkwX5_init_0 ++ dktX5_init_1
theorem dksX5_init_0 : cX5_init.data.toList.drop 0 = dktX5_init_0 := by decide +kernel
theorem dksX5_init_1 : cX5_init.data.toList.drop 22 = dktX5_init_1 := dk_seg dksX5_init_0 22 rfl rfl
theorem dX5_init_0 : decode cX5_init 0 = .ok (.aload_n 0, 1) := dk_42 (dk_at dksX5_init_0 0 rfl rfl)
theorem dX5_init_1 : decode cX5_init 1 = .ok (.aload_n 1, 1) := dk_43 (dk_at dksX5_init_0 1 rfl rfl)
theorem dX5_init_2 : decode cX5_init 2 = .ok (.putfield 3, 3) := dk_181 0 3 (dk_at dksX5_init_0 2 rfl rfl)
theorem dX5_init_5 : decode cX5_init 5 = .ok (.aload_n 0, 1) := dk_42 (dk_at dksX5_init_0 5 rfl rfl)
theorem dX5_init_6 : decode cX5_init 6 = .ok (.invokespecial 9, 3) := dk_183 0 9 (dk_at dksX5_init_0 6 rfl rfl)
theorem dX5_init_9 : decode cX5_init 9 = .ok (.aload_n 0, 1) := dk_42 (dk_at dksX5_init_0 9 rfl rfl)
theorem dX5_init_10 : decode cX5_init 10 = .ok (.new 15, 3) := dk_187 0 15 (dk_at dksX5_init_0 10 rfl rfl)
theorem dX5_init_13 : decode cX5_init 13 = .ok (.dup, 1) := dk_89 (dk_at dksX5_init_0 13 rfl rfl)
theorem dX5_init_14 : decode cX5_init 14 = .ok (.invokespecial 17, 3) := dk_183 0 17 (dk_at dksX5_init_0 14 rfl rfl)
theorem dX5_init_17 : decode cX5_init 17 = .ok (.putfield 18, 3) := dk_181 0 18 (dk_at dksX5_init_0 17 rfl rfl)
theorem dX5_init_20 : decode cX5_init 20 = .ok (.aload_n 0, 1) := dk_42 (dk_at dksX5_init_0 20 rfl rfl)
theorem dX5_init_21 : decode cX5_init 21 = .ok (.iload_n 2, 1) := dk_28 (dk_at dksX5_init_0 21 rfl rfl)
theorem dX5_init_22 : decode cX5_init 22 = .ok (.putfield 22, 3) := dk_181 0 22 (dk_at dksX5_init_1 0 rfl rfl)
theorem dX5_init_25 : decode cX5_init 25 = .ok (.aload_n 0, 1) := dk_42 (dk_at dksX5_init_1 3 rfl rfl)
theorem dX5_init_26 : decode cX5_init 26 = .ok (.aload_n 0, 1) := dk_42 (dk_at dksX5_init_1 4 rfl rfl)
theorem dX5_init_27 : decode cX5_init 27 = .ok (.iconst 0, 1) := dk_3 (dk_at dksX5_init_1 5 rfl rfl)
theorem dX5_init_28 : decode cX5_init 28 = .ok (.invokevirtual 26, 3) := dk_182 0 26 (dk_at dksX5_init_1 6 rfl rfl)
theorem dX5_init_31 : decode cX5_init 31 = .ok (.putfield 30, 3) := dk_181 0 30 (dk_at dksX5_init_1 9 rfl rfl)
theorem dX5_init_34 : decode cX5_init 34 = .ok (.return_, 1) := dk_177 (dk_at dksX5_init_1 12 rfl rfl)
abbrev cX5_tokenAt : ByteArray := prog_12_method_3_code
def yX5_tokenAt : MethodName := ⟨RX5, "tokenAt", "(I)LScaleInspection$Token;"⟩
def dkwX5_tokenAt_11 : List UInt8 := [28, 4, 96, 29, 16, 59, 159, 0, 8, 29, 2, 160, 0, 7, 29, 167, 0, 4, 3, 183, 0, 64, 176]
abbrev dktX5_tokenAt_11 : List UInt8 := dkwX5_tokenAt_11 ++ []
def dkwX5_tokenAt_10 : List UInt8 := [183, 0, 64, 167, 0, 15, 187, 0, 80, 89, 28, 21, 4, 21, 5, 183, 0, 82, 176, 187, 0, 62, 89, 28]
abbrev dktX5_tokenAt_10 : List UInt8 := dkwX5_tokenAt_10 ++ dktX5_tokenAt_11
def dkwX5_tokenAt_9 : List UInt8 := [132, 4, 1, 167, 255, 208, 21, 4, 28, 100, 16, 6, 164, 0, 17, 187, 0, 62, 89, 28, 21, 4, 3]
abbrev dktX5_tokenAt_9 : List UInt8 := dkwX5_tokenAt_9 ++ dktX5_tokenAt_10
def dkwX5_tokenAt_8 : List UInt8 := [100, 16, 6, 162, 0, 20, 16, 10, 21, 5, 104, 42, 21, 4, 182, 0, 38, 96, 16, 48, 100, 54, 5]
abbrev dktX5_tokenAt_8 : List UInt8 := dkwX5_tokenAt_8 ++ dktX5_tokenAt_9
def dkwX5_tokenAt_7 : List UInt8 := [54, 5, 42, 21, 4, 182, 0, 38, 133, 20, 0, 76, 20, 0, 78, 184, 0, 46, 153, 0, 35, 21, 4, 28]
abbrev dktX5_tokenAt_7 : List UInt8 := dkwX5_tokenAt_7 ++ dktX5_tokenAt_8
def dkwX5_tokenAt_6 : List UInt8 := [25, 5, 182, 0, 69, 183, 0, 73, 176, 29, 133, 20, 0, 76, 20, 0, 78, 184, 0, 46, 153, 0, 93, 3]
abbrev dktX5_tokenAt_6 : List UInt8 := dkwX5_tokenAt_6 ++ dktX5_tokenAt_7
def dkwX5_tokenAt_5 : List UInt8 := [164, 0, 17, 187, 0, 62, 89, 28, 21, 4, 3, 183, 0, 64, 167, 0, 18, 187, 0, 67, 89, 28, 21, 4]
abbrev dktX5_tokenAt_5 : List UInt8 := dkwX5_tokenAt_5 ++ dktX5_tokenAt_6
def dkwX5_tokenAt_4 : List UInt8 := [42, 21, 4, 182, 0, 38, 146, 182, 0, 58, 87, 132, 4, 1, 167, 255, 211, 21, 4, 28, 100, 16, 8]
abbrev dktX5_tokenAt_4 : List UInt8 := dkwX5_tokenAt_4 ++ dktX5_tokenAt_5
def dkwX5_tokenAt_3 : List UInt8 := [20, 0, 42, 20, 0, 44, 184, 0, 46, 153, 0, 32, 25, 5, 182, 0, 55, 16, 8, 162, 0, 16, 25, 5]
abbrev dktX5_tokenAt_3 : List UInt8 := dkwX5_tokenAt_3 ++ dktX5_tokenAt_4
def dkwX5_tokenAt_2 : List UInt8 := [184, 0, 46, 153, 0, 101, 187, 0, 50, 89, 16, 8, 183, 0, 52, 58, 5, 42, 21, 4, 182, 0, 38, 133]
abbrev dktX5_tokenAt_2 : List UInt8 := dkwX5_tokenAt_2 ++ dktX5_tokenAt_3
def dkwX5_tokenAt_1 : List UInt8 := [132, 2, 1, 167, 255, 233, 42, 28, 182, 0, 38, 62, 28, 54, 4, 29, 133, 20, 0, 42, 20, 0, 44]
abbrev dktX5_tokenAt_1 : List UInt8 := dkwX5_tokenAt_1 ++ dktX5_tokenAt_2
def dkwX5_tokenAt_0 : List UInt8 := [27, 61, 42, 28, 182, 0, 38, 16, 32, 159, 0, 13, 42, 28, 182, 0, 38, 16, 10, 160, 0, 9]
abbrev dktX5_tokenAt_0 : List UInt8 := dkwX5_tokenAt_0 ++ dktX5_tokenAt_1
theorem dksX5_tokenAt_0 : cX5_tokenAt.data.toList.drop 0 = dktX5_tokenAt_0 := by decide +kernel
theorem dksX5_tokenAt_1 : cX5_tokenAt.data.toList.drop 22 = dktX5_tokenAt_1 := dk_seg dksX5_tokenAt_0 22 rfl rfl
theorem dksX5_tokenAt_2 : cX5_tokenAt.data.toList.drop 45 = dktX5_tokenAt_2 := dk_seg dksX5_tokenAt_1 23 rfl rfl
theorem dksX5_tokenAt_3 : cX5_tokenAt.data.toList.drop 69 = dktX5_tokenAt_3 := dk_seg dksX5_tokenAt_2 24 rfl rfl
theorem dksX5_tokenAt_4 : cX5_tokenAt.data.toList.drop 93 = dktX5_tokenAt_4 := dk_seg dksX5_tokenAt_3 24 rfl rfl
theorem dksX5_tokenAt_5 : cX5_tokenAt.data.toList.drop 116 = dktX5_tokenAt_5 := dk_seg dksX5_tokenAt_4 23 rfl rfl
theorem dksX5_tokenAt_6 : cX5_tokenAt.data.toList.drop 140 = dktX5_tokenAt_6 := dk_seg dksX5_tokenAt_5 24 rfl rfl
theorem dksX5_tokenAt_7 : cX5_tokenAt.data.toList.drop 164 = dktX5_tokenAt_7 := dk_seg dksX5_tokenAt_6 24 rfl rfl
theorem dksX5_tokenAt_8 : cX5_tokenAt.data.toList.drop 188 = dktX5_tokenAt_8 := dk_seg dksX5_tokenAt_7 24 rfl rfl
theorem dksX5_tokenAt_9 : cX5_tokenAt.data.toList.drop 211 = dktX5_tokenAt_9 := dk_seg dksX5_tokenAt_8 23 rfl rfl
theorem dksX5_tokenAt_10 : cX5_tokenAt.data.toList.drop 234 = dktX5_tokenAt_10 := dk_seg dksX5_tokenAt_9 23 rfl rfl
theorem dksX5_tokenAt_11 : cX5_tokenAt.data.toList.drop 258 = dktX5_tokenAt_11 := dk_seg dksX5_tokenAt_10 24 rfl rfl
theorem dX5_tokenAt_0 : decode cX5_tokenAt 0 = .ok (.iload_n 1, 1) := dk_27 (dk_at dksX5_tokenAt_0 0 rfl rfl)
theorem dX5_tokenAt_1 : decode cX5_tokenAt 1 = .ok (.istore_n 2, 1) := dk_61 (dk_at dksX5_tokenAt_0 1 rfl rfl)
theorem dX5_tokenAt_2 : decode cX5_tokenAt 2 = .ok (.aload_n 0, 1) := dk_42 (dk_at dksX5_tokenAt_0 2 rfl rfl)
theorem dX5_tokenAt_3 : decode cX5_tokenAt 3 = .ok (.iload_n 2, 1) := dk_28 (dk_at dksX5_tokenAt_0 3 rfl rfl)
theorem dX5_tokenAt_4 : decode cX5_tokenAt 4 = .ok (.invokevirtual 38, 3) := dk_182 0 38 (dk_at dksX5_tokenAt_0 4 rfl rfl)
theorem dX5_tokenAt_7 : decode cX5_tokenAt 7 = .ok (.bipush 32, 2) := dk_16 32 (dk_at dksX5_tokenAt_0 7 rfl rfl)
theorem dX5_tokenAt_9 : decode cX5_tokenAt 9 = .ok (.if_icmp .eq 13, 3) := dk_159 0 13 (dk_at dksX5_tokenAt_0 9 rfl rfl)
theorem dX5_tokenAt_12 : decode cX5_tokenAt 12 = .ok (.aload_n 0, 1) := dk_42 (dk_at dksX5_tokenAt_0 12 rfl rfl)
theorem dX5_tokenAt_13 : decode cX5_tokenAt 13 = .ok (.iload_n 2, 1) := dk_28 (dk_at dksX5_tokenAt_0 13 rfl rfl)
theorem dX5_tokenAt_14 : decode cX5_tokenAt 14 = .ok (.invokevirtual 38, 3) := dk_182 0 38 (dk_at dksX5_tokenAt_0 14 rfl rfl)
theorem dX5_tokenAt_17 : decode cX5_tokenAt 17 = .ok (.bipush 10, 2) := dk_16 10 (dk_at dksX5_tokenAt_0 17 rfl rfl)
theorem dX5_tokenAt_19 : decode cX5_tokenAt 19 = .ok (.if_icmp .ne 9, 3) := dk_160 0 9 (dk_at dksX5_tokenAt_0 19 rfl rfl)
theorem dX5_tokenAt_22 : decode cX5_tokenAt 22 = .ok (.iinc 2 1, 3) := dk_132 2 1 (dk_at dksX5_tokenAt_1 0 rfl rfl)
theorem dX5_tokenAt_25 : decode cX5_tokenAt 25 = .ok (.goto (-23), 3) := dk_167 255 233 (dk_at dksX5_tokenAt_1 3 rfl rfl)
theorem dX5_tokenAt_28 : decode cX5_tokenAt 28 = .ok (.aload_n 0, 1) := dk_42 (dk_at dksX5_tokenAt_1 6 rfl rfl)
theorem dX5_tokenAt_29 : decode cX5_tokenAt 29 = .ok (.iload_n 2, 1) := dk_28 (dk_at dksX5_tokenAt_1 7 rfl rfl)
theorem dX5_tokenAt_30 : decode cX5_tokenAt 30 = .ok (.invokevirtual 38, 3) := dk_182 0 38 (dk_at dksX5_tokenAt_1 8 rfl rfl)
theorem dX5_tokenAt_33 : decode cX5_tokenAt 33 = .ok (.istore_n 3, 1) := dk_62 (dk_at dksX5_tokenAt_1 11 rfl rfl)
theorem dX5_tokenAt_34 : decode cX5_tokenAt 34 = .ok (.iload_n 2, 1) := dk_28 (dk_at dksX5_tokenAt_1 12 rfl rfl)
theorem dX5_tokenAt_35 : decode cX5_tokenAt 35 = .ok (.istore 4, 2) := dk_54 4 (dk_at dksX5_tokenAt_1 13 rfl rfl)
theorem dX5_tokenAt_37 : decode cX5_tokenAt 37 = .ok (.iload_n 3, 1) := dk_29 (dk_at dksX5_tokenAt_1 15 rfl rfl)
theorem dX5_tokenAt_38 : decode cX5_tokenAt 38 = .ok (.i2l, 1) := dk_133 (dk_at dksX5_tokenAt_1 16 rfl rfl)
theorem dX5_tokenAt_39 : decode cX5_tokenAt 39 = .ok (.ldc2_w 42, 3) := dk_20 0 42 (dk_at dksX5_tokenAt_1 17 rfl rfl)
theorem dX5_tokenAt_42 : decode cX5_tokenAt 42 = .ok (.ldc2_w 44, 3) := dk_20 0 44 (dk_at dksX5_tokenAt_1 20 rfl rfl)
theorem dX5_tokenAt_45 : decode cX5_tokenAt 45 = .ok (.invokestatic 46, 3) := dk_184 0 46 (dk_at dksX5_tokenAt_2 0 rfl rfl)
theorem dX5_tokenAt_48 : decode cX5_tokenAt 48 = .ok (.ifCond .eq 101, 3) := dk_153 0 101 (dk_at dksX5_tokenAt_2 3 rfl rfl)
theorem dX5_tokenAt_51 : decode cX5_tokenAt 51 = .ok (.new 50, 3) := dk_187 0 50 (dk_at dksX5_tokenAt_2 6 rfl rfl)
theorem dX5_tokenAt_54 : decode cX5_tokenAt 54 = .ok (.dup, 1) := dk_89 (dk_at dksX5_tokenAt_2 9 rfl rfl)
theorem dX5_tokenAt_55 : decode cX5_tokenAt 55 = .ok (.bipush 8, 2) := dk_16 8 (dk_at dksX5_tokenAt_2 10 rfl rfl)
theorem dX5_tokenAt_57 : decode cX5_tokenAt 57 = .ok (.invokespecial 52, 3) := dk_183 0 52 (dk_at dksX5_tokenAt_2 12 rfl rfl)
theorem dX5_tokenAt_60 : decode cX5_tokenAt 60 = .ok (.astore 5, 2) := dk_58 5 (dk_at dksX5_tokenAt_2 15 rfl rfl)
theorem dX5_tokenAt_62 : decode cX5_tokenAt 62 = .ok (.aload_n 0, 1) := dk_42 (dk_at dksX5_tokenAt_2 17 rfl rfl)
theorem dX5_tokenAt_63 : decode cX5_tokenAt 63 = .ok (.iload 4, 2) := dk_21 4 (dk_at dksX5_tokenAt_2 18 rfl rfl)
theorem dX5_tokenAt_65 : decode cX5_tokenAt 65 = .ok (.invokevirtual 38, 3) := dk_182 0 38 (dk_at dksX5_tokenAt_2 20 rfl rfl)
theorem dX5_tokenAt_68 : decode cX5_tokenAt 68 = .ok (.i2l, 1) := dk_133 (dk_at dksX5_tokenAt_2 23 rfl rfl)
theorem dX5_tokenAt_69 : decode cX5_tokenAt 69 = .ok (.ldc2_w 42, 3) := dk_20 0 42 (dk_at dksX5_tokenAt_3 0 rfl rfl)
theorem dX5_tokenAt_72 : decode cX5_tokenAt 72 = .ok (.ldc2_w 44, 3) := dk_20 0 44 (dk_at dksX5_tokenAt_3 3 rfl rfl)
theorem dX5_tokenAt_75 : decode cX5_tokenAt 75 = .ok (.invokestatic 46, 3) := dk_184 0 46 (dk_at dksX5_tokenAt_3 6 rfl rfl)
theorem dX5_tokenAt_78 : decode cX5_tokenAt 78 = .ok (.ifCond .eq 32, 3) := dk_153 0 32 (dk_at dksX5_tokenAt_3 9 rfl rfl)
theorem dX5_tokenAt_81 : decode cX5_tokenAt 81 = .ok (.aload 5, 2) := dk_25 5 (dk_at dksX5_tokenAt_3 12 rfl rfl)
theorem dX5_tokenAt_83 : decode cX5_tokenAt 83 = .ok (.invokevirtual 55, 3) := dk_182 0 55 (dk_at dksX5_tokenAt_3 14 rfl rfl)
theorem dX5_tokenAt_86 : decode cX5_tokenAt 86 = .ok (.bipush 8, 2) := dk_16 8 (dk_at dksX5_tokenAt_3 17 rfl rfl)
theorem dX5_tokenAt_88 : decode cX5_tokenAt 88 = .ok (.if_icmp .ge 16, 3) := dk_162 0 16 (dk_at dksX5_tokenAt_3 19 rfl rfl)
theorem dX5_tokenAt_91 : decode cX5_tokenAt 91 = .ok (.aload 5, 2) := dk_25 5 (dk_at dksX5_tokenAt_3 22 rfl rfl)
theorem dX5_tokenAt_93 : decode cX5_tokenAt 93 = .ok (.aload_n 0, 1) := dk_42 (dk_at dksX5_tokenAt_4 0 rfl rfl)
theorem dX5_tokenAt_94 : decode cX5_tokenAt 94 = .ok (.iload 4, 2) := dk_21 4 (dk_at dksX5_tokenAt_4 1 rfl rfl)
theorem dX5_tokenAt_96 : decode cX5_tokenAt 96 = .ok (.invokevirtual 38, 3) := dk_182 0 38 (dk_at dksX5_tokenAt_4 3 rfl rfl)
theorem dX5_tokenAt_99 : decode cX5_tokenAt 99 = .ok (.i2c, 1) := dk_146 (dk_at dksX5_tokenAt_4 6 rfl rfl)
theorem dX5_tokenAt_100 : decode cX5_tokenAt 100 = .ok (.invokevirtual 58, 3) := dk_182 0 58 (dk_at dksX5_tokenAt_4 7 rfl rfl)
theorem dX5_tokenAt_103 : decode cX5_tokenAt 103 = .ok (.pop, 1) := dk_87 (dk_at dksX5_tokenAt_4 10 rfl rfl)
theorem dX5_tokenAt_104 : decode cX5_tokenAt 104 = .ok (.iinc 4 1, 3) := dk_132 4 1 (dk_at dksX5_tokenAt_4 11 rfl rfl)
theorem dX5_tokenAt_107 : decode cX5_tokenAt 107 = .ok (.goto (-45), 3) := dk_167 255 211 (dk_at dksX5_tokenAt_4 14 rfl rfl)
theorem dX5_tokenAt_110 : decode cX5_tokenAt 110 = .ok (.iload 4, 2) := dk_21 4 (dk_at dksX5_tokenAt_4 17 rfl rfl)
theorem dX5_tokenAt_112 : decode cX5_tokenAt 112 = .ok (.iload_n 2, 1) := dk_28 (dk_at dksX5_tokenAt_4 19 rfl rfl)
theorem dX5_tokenAt_113 : decode cX5_tokenAt 113 = .ok (.isub, 1) := dk_100 (dk_at dksX5_tokenAt_4 20 rfl rfl)
theorem dX5_tokenAt_114 : decode cX5_tokenAt 114 = .ok (.bipush 8, 2) := dk_16 8 (dk_at dksX5_tokenAt_4 21 rfl rfl)
theorem dX5_tokenAt_116 : decode cX5_tokenAt 116 = .ok (.if_icmp .le 17, 3) := dk_164 0 17 (dk_at dksX5_tokenAt_5 0 rfl rfl)
theorem dX5_tokenAt_119 : decode cX5_tokenAt 119 = .ok (.new 62, 3) := dk_187 0 62 (dk_at dksX5_tokenAt_5 3 rfl rfl)
theorem dX5_tokenAt_122 : decode cX5_tokenAt 122 = .ok (.dup, 1) := dk_89 (dk_at dksX5_tokenAt_5 6 rfl rfl)
theorem dX5_tokenAt_123 : decode cX5_tokenAt 123 = .ok (.iload_n 2, 1) := dk_28 (dk_at dksX5_tokenAt_5 7 rfl rfl)
theorem dX5_tokenAt_124 : decode cX5_tokenAt 124 = .ok (.iload 4, 2) := dk_21 4 (dk_at dksX5_tokenAt_5 8 rfl rfl)
theorem dX5_tokenAt_126 : decode cX5_tokenAt 126 = .ok (.iconst 0, 1) := dk_3 (dk_at dksX5_tokenAt_5 10 rfl rfl)
theorem dX5_tokenAt_127 : decode cX5_tokenAt 127 = .ok (.invokespecial 64, 3) := dk_183 0 64 (dk_at dksX5_tokenAt_5 11 rfl rfl)
theorem dX5_tokenAt_130 : decode cX5_tokenAt 130 = .ok (.goto 18, 3) := dk_167 0 18 (dk_at dksX5_tokenAt_5 14 rfl rfl)
theorem dX5_tokenAt_133 : decode cX5_tokenAt 133 = .ok (.new 67, 3) := dk_187 0 67 (dk_at dksX5_tokenAt_5 17 rfl rfl)
theorem dX5_tokenAt_136 : decode cX5_tokenAt 136 = .ok (.dup, 1) := dk_89 (dk_at dksX5_tokenAt_5 20 rfl rfl)
theorem dX5_tokenAt_137 : decode cX5_tokenAt 137 = .ok (.iload_n 2, 1) := dk_28 (dk_at dksX5_tokenAt_5 21 rfl rfl)
theorem dX5_tokenAt_138 : decode cX5_tokenAt 138 = .ok (.iload 4, 2) := dk_21 4 (dk_at dksX5_tokenAt_5 22 rfl rfl)
theorem dX5_tokenAt_140 : decode cX5_tokenAt 140 = .ok (.aload 5, 2) := dk_25 5 (dk_at dksX5_tokenAt_6 0 rfl rfl)
theorem dX5_tokenAt_142 : decode cX5_tokenAt 142 = .ok (.invokevirtual 69, 3) := dk_182 0 69 (dk_at dksX5_tokenAt_6 2 rfl rfl)
theorem dX5_tokenAt_145 : decode cX5_tokenAt 145 = .ok (.invokespecial 73, 3) := dk_183 0 73 (dk_at dksX5_tokenAt_6 5 rfl rfl)
theorem dX5_tokenAt_148 : decode cX5_tokenAt 148 = .ok (.areturn, 1) := dk_176 (dk_at dksX5_tokenAt_6 8 rfl rfl)
theorem dX5_tokenAt_149 : decode cX5_tokenAt 149 = .ok (.iload_n 3, 1) := dk_29 (dk_at dksX5_tokenAt_6 9 rfl rfl)
theorem dX5_tokenAt_150 : decode cX5_tokenAt 150 = .ok (.i2l, 1) := dk_133 (dk_at dksX5_tokenAt_6 10 rfl rfl)
theorem dX5_tokenAt_151 : decode cX5_tokenAt 151 = .ok (.ldc2_w 76, 3) := dk_20 0 76 (dk_at dksX5_tokenAt_6 11 rfl rfl)
theorem dX5_tokenAt_154 : decode cX5_tokenAt 154 = .ok (.ldc2_w 78, 3) := dk_20 0 78 (dk_at dksX5_tokenAt_6 14 rfl rfl)
theorem dX5_tokenAt_157 : decode cX5_tokenAt 157 = .ok (.invokestatic 46, 3) := dk_184 0 46 (dk_at dksX5_tokenAt_6 17 rfl rfl)
theorem dX5_tokenAt_160 : decode cX5_tokenAt 160 = .ok (.ifCond .eq 93, 3) := dk_153 0 93 (dk_at dksX5_tokenAt_6 20 rfl rfl)
theorem dX5_tokenAt_163 : decode cX5_tokenAt 163 = .ok (.iconst 0, 1) := dk_3 (dk_at dksX5_tokenAt_6 23 rfl rfl)
theorem dX5_tokenAt_164 : decode cX5_tokenAt 164 = .ok (.istore 5, 2) := dk_54 5 (dk_at dksX5_tokenAt_7 0 rfl rfl)
theorem dX5_tokenAt_166 : decode cX5_tokenAt 166 = .ok (.aload_n 0, 1) := dk_42 (dk_at dksX5_tokenAt_7 2 rfl rfl)
theorem dX5_tokenAt_167 : decode cX5_tokenAt 167 = .ok (.iload 4, 2) := dk_21 4 (dk_at dksX5_tokenAt_7 3 rfl rfl)
theorem dX5_tokenAt_169 : decode cX5_tokenAt 169 = .ok (.invokevirtual 38, 3) := dk_182 0 38 (dk_at dksX5_tokenAt_7 5 rfl rfl)
theorem dX5_tokenAt_172 : decode cX5_tokenAt 172 = .ok (.i2l, 1) := dk_133 (dk_at dksX5_tokenAt_7 8 rfl rfl)
theorem dX5_tokenAt_173 : decode cX5_tokenAt 173 = .ok (.ldc2_w 76, 3) := dk_20 0 76 (dk_at dksX5_tokenAt_7 9 rfl rfl)
theorem dX5_tokenAt_176 : decode cX5_tokenAt 176 = .ok (.ldc2_w 78, 3) := dk_20 0 78 (dk_at dksX5_tokenAt_7 12 rfl rfl)
theorem dX5_tokenAt_179 : decode cX5_tokenAt 179 = .ok (.invokestatic 46, 3) := dk_184 0 46 (dk_at dksX5_tokenAt_7 15 rfl rfl)
theorem dX5_tokenAt_182 : decode cX5_tokenAt 182 = .ok (.ifCond .eq 35, 3) := dk_153 0 35 (dk_at dksX5_tokenAt_7 18 rfl rfl)
theorem dX5_tokenAt_185 : decode cX5_tokenAt 185 = .ok (.iload 4, 2) := dk_21 4 (dk_at dksX5_tokenAt_7 21 rfl rfl)
theorem dX5_tokenAt_187 : decode cX5_tokenAt 187 = .ok (.iload_n 2, 1) := dk_28 (dk_at dksX5_tokenAt_7 23 rfl rfl)
theorem dX5_tokenAt_188 : decode cX5_tokenAt 188 = .ok (.isub, 1) := dk_100 (dk_at dksX5_tokenAt_8 0 rfl rfl)
theorem dX5_tokenAt_189 : decode cX5_tokenAt 189 = .ok (.bipush 6, 2) := dk_16 6 (dk_at dksX5_tokenAt_8 1 rfl rfl)
theorem dX5_tokenAt_191 : decode cX5_tokenAt 191 = .ok (.if_icmp .ge 20, 3) := dk_162 0 20 (dk_at dksX5_tokenAt_8 3 rfl rfl)
theorem dX5_tokenAt_194 : decode cX5_tokenAt 194 = .ok (.bipush 10, 2) := dk_16 10 (dk_at dksX5_tokenAt_8 6 rfl rfl)
theorem dX5_tokenAt_196 : decode cX5_tokenAt 196 = .ok (.iload 5, 2) := dk_21 5 (dk_at dksX5_tokenAt_8 8 rfl rfl)
theorem dX5_tokenAt_198 : decode cX5_tokenAt 198 = .ok (.imul, 1) := dk_104 (dk_at dksX5_tokenAt_8 10 rfl rfl)
theorem dX5_tokenAt_199 : decode cX5_tokenAt 199 = .ok (.aload_n 0, 1) := dk_42 (dk_at dksX5_tokenAt_8 11 rfl rfl)
theorem dX5_tokenAt_200 : decode cX5_tokenAt 200 = .ok (.iload 4, 2) := dk_21 4 (dk_at dksX5_tokenAt_8 12 rfl rfl)
theorem dX5_tokenAt_202 : decode cX5_tokenAt 202 = .ok (.invokevirtual 38, 3) := dk_182 0 38 (dk_at dksX5_tokenAt_8 14 rfl rfl)
theorem dX5_tokenAt_205 : decode cX5_tokenAt 205 = .ok (.iadd, 1) := dk_96 (dk_at dksX5_tokenAt_8 17 rfl rfl)
theorem dX5_tokenAt_206 : decode cX5_tokenAt 206 = .ok (.bipush 48, 2) := dk_16 48 (dk_at dksX5_tokenAt_8 18 rfl rfl)
theorem dX5_tokenAt_208 : decode cX5_tokenAt 208 = .ok (.isub, 1) := dk_100 (dk_at dksX5_tokenAt_8 20 rfl rfl)
theorem dX5_tokenAt_209 : decode cX5_tokenAt 209 = .ok (.istore 5, 2) := dk_54 5 (dk_at dksX5_tokenAt_8 21 rfl rfl)
theorem dX5_tokenAt_211 : decode cX5_tokenAt 211 = .ok (.iinc 4 1, 3) := dk_132 4 1 (dk_at dksX5_tokenAt_9 0 rfl rfl)
theorem dX5_tokenAt_214 : decode cX5_tokenAt 214 = .ok (.goto (-48), 3) := dk_167 255 208 (dk_at dksX5_tokenAt_9 3 rfl rfl)
theorem dX5_tokenAt_217 : decode cX5_tokenAt 217 = .ok (.iload 4, 2) := dk_21 4 (dk_at dksX5_tokenAt_9 6 rfl rfl)
theorem dX5_tokenAt_219 : decode cX5_tokenAt 219 = .ok (.iload_n 2, 1) := dk_28 (dk_at dksX5_tokenAt_9 8 rfl rfl)
theorem dX5_tokenAt_220 : decode cX5_tokenAt 220 = .ok (.isub, 1) := dk_100 (dk_at dksX5_tokenAt_9 9 rfl rfl)
theorem dX5_tokenAt_221 : decode cX5_tokenAt 221 = .ok (.bipush 6, 2) := dk_16 6 (dk_at dksX5_tokenAt_9 10 rfl rfl)
theorem dX5_tokenAt_223 : decode cX5_tokenAt 223 = .ok (.if_icmp .le 17, 3) := dk_164 0 17 (dk_at dksX5_tokenAt_9 12 rfl rfl)
theorem dX5_tokenAt_226 : decode cX5_tokenAt 226 = .ok (.new 62, 3) := dk_187 0 62 (dk_at dksX5_tokenAt_9 15 rfl rfl)
theorem dX5_tokenAt_229 : decode cX5_tokenAt 229 = .ok (.dup, 1) := dk_89 (dk_at dksX5_tokenAt_9 18 rfl rfl)
theorem dX5_tokenAt_230 : decode cX5_tokenAt 230 = .ok (.iload_n 2, 1) := dk_28 (dk_at dksX5_tokenAt_9 19 rfl rfl)
theorem dX5_tokenAt_231 : decode cX5_tokenAt 231 = .ok (.iload 4, 2) := dk_21 4 (dk_at dksX5_tokenAt_9 20 rfl rfl)
theorem dX5_tokenAt_233 : decode cX5_tokenAt 233 = .ok (.iconst 0, 1) := dk_3 (dk_at dksX5_tokenAt_9 22 rfl rfl)
theorem dX5_tokenAt_234 : decode cX5_tokenAt 234 = .ok (.invokespecial 64, 3) := dk_183 0 64 (dk_at dksX5_tokenAt_10 0 rfl rfl)
theorem dX5_tokenAt_237 : decode cX5_tokenAt 237 = .ok (.goto 15, 3) := dk_167 0 15 (dk_at dksX5_tokenAt_10 3 rfl rfl)
theorem dX5_tokenAt_240 : decode cX5_tokenAt 240 = .ok (.new 80, 3) := dk_187 0 80 (dk_at dksX5_tokenAt_10 6 rfl rfl)
theorem dX5_tokenAt_243 : decode cX5_tokenAt 243 = .ok (.dup, 1) := dk_89 (dk_at dksX5_tokenAt_10 9 rfl rfl)
theorem dX5_tokenAt_244 : decode cX5_tokenAt 244 = .ok (.iload_n 2, 1) := dk_28 (dk_at dksX5_tokenAt_10 10 rfl rfl)
theorem dX5_tokenAt_245 : decode cX5_tokenAt 245 = .ok (.iload 4, 2) := dk_21 4 (dk_at dksX5_tokenAt_10 11 rfl rfl)
theorem dX5_tokenAt_247 : decode cX5_tokenAt 247 = .ok (.iload 5, 2) := dk_21 5 (dk_at dksX5_tokenAt_10 13 rfl rfl)
theorem dX5_tokenAt_249 : decode cX5_tokenAt 249 = .ok (.invokespecial 82, 3) := dk_183 0 82 (dk_at dksX5_tokenAt_10 15 rfl rfl)
theorem dX5_tokenAt_252 : decode cX5_tokenAt 252 = .ok (.areturn, 1) := dk_176 (dk_at dksX5_tokenAt_10 18 rfl rfl)
theorem dX5_tokenAt_253 : decode cX5_tokenAt 253 = .ok (.new 62, 3) := dk_187 0 62 (dk_at dksX5_tokenAt_10 19 rfl rfl)
theorem dX5_tokenAt_256 : decode cX5_tokenAt 256 = .ok (.dup, 1) := dk_89 (dk_at dksX5_tokenAt_10 22 rfl rfl)
theorem dX5_tokenAt_257 : decode cX5_tokenAt 257 = .ok (.iload_n 2, 1) := dk_28 (dk_at dksX5_tokenAt_10 23 rfl rfl)
theorem dX5_tokenAt_258 : decode cX5_tokenAt 258 = .ok (.iload_n 2, 1) := dk_28 (dk_at dksX5_tokenAt_11 0 rfl rfl)
theorem dX5_tokenAt_259 : decode cX5_tokenAt 259 = .ok (.iconst 1, 1) := dk_4 (dk_at dksX5_tokenAt_11 1 rfl rfl)
theorem dX5_tokenAt_260 : decode cX5_tokenAt 260 = .ok (.iadd, 1) := dk_96 (dk_at dksX5_tokenAt_11 2 rfl rfl)
theorem dX5_tokenAt_261 : decode cX5_tokenAt 261 = .ok (.iload_n 3, 1) := dk_29 (dk_at dksX5_tokenAt_11 3 rfl rfl)
theorem dX5_tokenAt_262 : decode cX5_tokenAt 262 = .ok (.bipush 59, 2) := dk_16 59 (dk_at dksX5_tokenAt_11 4 rfl rfl)
theorem dX5_tokenAt_264 : decode cX5_tokenAt 264 = .ok (.if_icmp .eq 8, 3) := dk_159 0 8 (dk_at dksX5_tokenAt_11 6 rfl rfl)
theorem dX5_tokenAt_267 : decode cX5_tokenAt 267 = .ok (.iload_n 3, 1) := dk_29 (dk_at dksX5_tokenAt_11 9 rfl rfl)
theorem dX5_tokenAt_268 : decode cX5_tokenAt 268 = .ok (.iconst (-1), 1) := dk_2 (dk_at dksX5_tokenAt_11 10 rfl rfl)
theorem dX5_tokenAt_269 : decode cX5_tokenAt 269 = .ok (.if_icmp .ne 7, 3) := dk_160 0 7 (dk_at dksX5_tokenAt_11 11 rfl rfl)
theorem dX5_tokenAt_272 : decode cX5_tokenAt 272 = .ok (.iload_n 3, 1) := dk_29 (dk_at dksX5_tokenAt_11 14 rfl rfl)
theorem dX5_tokenAt_273 : decode cX5_tokenAt 273 = .ok (.goto 4, 3) := dk_167 0 4 (dk_at dksX5_tokenAt_11 15 rfl rfl)
theorem dX5_tokenAt_276 : decode cX5_tokenAt 276 = .ok (.iconst 0, 1) := dk_3 (dk_at dksX5_tokenAt_11 18 rfl rfl)
theorem dX5_tokenAt_277 : decode cX5_tokenAt 277 = .ok (.invokespecial 64, 3) := dk_183 0 64 (dk_at dksX5_tokenAt_11 19 rfl rfl)
theorem dX5_tokenAt_280 : decode cX5_tokenAt 280 = .ok (.areturn, 1) := dk_176 (dk_at dksX5_tokenAt_11 22 rfl rfl)
abbrev cX5_byteAt : ByteArray := prog_12_method_2_code
def yX5_byteAt : MethodName := ⟨RX5, "byteAt", "(I)I"⟩
def dkwX5_byteAt_1 : List UInt8 := [2, 172]
abbrev dktX5_byteAt_1 : List UInt8 := dkwX5_byteAt_1 ++ []
def dkwX5_byteAt_0 : List UInt8 := [27, 42, 180, 0, 22, 162, 0, 19, 42, 180, 0, 3, 180, 0, 34, 27, 51, 17, 0, 255, 126, 167, 0, 4]
abbrev dktX5_byteAt_0 : List UInt8 := dkwX5_byteAt_0 ++ dktX5_byteAt_1
theorem dksX5_byteAt_0 : cX5_byteAt.data.toList.drop 0 = dktX5_byteAt_0 := by decide +kernel
theorem dksX5_byteAt_1 : cX5_byteAt.data.toList.drop 24 = dktX5_byteAt_1 := dk_seg dksX5_byteAt_0 24 rfl rfl
theorem dX5_byteAt_0 : decode cX5_byteAt 0 = .ok (.iload_n 1, 1) := dk_27 (dk_at dksX5_byteAt_0 0 rfl rfl)
theorem dX5_byteAt_1 : decode cX5_byteAt 1 = .ok (.aload_n 0, 1) := dk_42 (dk_at dksX5_byteAt_0 1 rfl rfl)
theorem dX5_byteAt_2 : decode cX5_byteAt 2 = .ok (.getfield 22, 3) := dk_180 0 22 (dk_at dksX5_byteAt_0 2 rfl rfl)
theorem dX5_byteAt_5 : decode cX5_byteAt 5 = .ok (.if_icmp .ge 19, 3) := dk_162 0 19 (dk_at dksX5_byteAt_0 5 rfl rfl)
theorem dX5_byteAt_8 : decode cX5_byteAt 8 = .ok (.aload_n 0, 1) := dk_42 (dk_at dksX5_byteAt_0 8 rfl rfl)
theorem dX5_byteAt_9 : decode cX5_byteAt 9 = .ok (.getfield 3, 3) := dk_180 0 3 (dk_at dksX5_byteAt_0 9 rfl rfl)
theorem dX5_byteAt_12 : decode cX5_byteAt 12 = .ok (.getfield 34, 3) := dk_180 0 34 (dk_at dksX5_byteAt_0 12 rfl rfl)
theorem dX5_byteAt_15 : decode cX5_byteAt 15 = .ok (.iload_n 1, 1) := dk_27 (dk_at dksX5_byteAt_0 15 rfl rfl)
theorem dX5_byteAt_16 : decode cX5_byteAt 16 = .ok (.baload, 1) := dk_51 (dk_at dksX5_byteAt_0 16 rfl rfl)
theorem dX5_byteAt_17 : decode cX5_byteAt 17 = .ok (.sipush 255, 3) := dk_17 0 255 (dk_at dksX5_byteAt_0 17 rfl rfl)
theorem dX5_byteAt_20 : decode cX5_byteAt 20 = .ok (.iand, 1) := dk_126 (dk_at dksX5_byteAt_0 20 rfl rfl)
theorem dX5_byteAt_21 : decode cX5_byteAt 21 = .ok (.goto 4, 3) := dk_167 0 4 (dk_at dksX5_byteAt_0 21 rfl rfl)
theorem dX5_byteAt_24 : decode cX5_byteAt 24 = .ok (.iconst (-1), 1) := dk_2 (dk_at dksX5_byteAt_1 0 rfl rfl)
theorem dX5_byteAt_25 : decode cX5_byteAt 25 = .ok (.ireturn, 1) := dk_172 (dk_at dksX5_byteAt_1 1 rfl rfl)
abbrev cX5_parse : ByteArray := prog_12_method_8_code
def yX5_parse : MethodName := ⟨RX5, "parse", "()LScaleInspection$Market;"⟩
def dkwX5_parse_1 : List UInt8 := [182, 0, 107, 42, 182, 0, 100, 167, 255, 226, 42, 180, 0, 18, 176]
abbrev dktX5_parse_1 : List UInt8 := dkwX5_parse_1 ++ []
def dkwX5_parse_0 : List UInt8 := [42, 180, 0, 30, 182, 0, 114, 154, 0, 26, 42, 182, 0, 117, 42, 42, 180, 0, 30, 182, 0, 120, 4]
abbrev dktX5_parse_0 : List UInt8 := dkwX5_parse_0 ++ dktX5_parse_1
theorem dksX5_parse_0 : cX5_parse.data.toList.drop 0 = dktX5_parse_0 := by decide +kernel
theorem dksX5_parse_1 : cX5_parse.data.toList.drop 23 = dktX5_parse_1 := dk_seg dksX5_parse_0 23 rfl rfl
theorem dX5_parse_0 : decode cX5_parse 0 = .ok (.aload_n 0, 1) := dk_42 (dk_at dksX5_parse_0 0 rfl rfl)
theorem dX5_parse_1 : decode cX5_parse 1 = .ok (.getfield 30, 3) := dk_180 0 30 (dk_at dksX5_parse_0 1 rfl rfl)
theorem dX5_parse_4 : decode cX5_parse 4 = .ok (.invokevirtual 114, 3) := dk_182 0 114 (dk_at dksX5_parse_0 4 rfl rfl)
theorem dX5_parse_7 : decode cX5_parse 7 = .ok (.ifCond .ne 26, 3) := dk_154 0 26 (dk_at dksX5_parse_0 7 rfl rfl)
theorem dX5_parse_10 : decode cX5_parse 10 = .ok (.aload_n 0, 1) := dk_42 (dk_at dksX5_parse_0 10 rfl rfl)
theorem dX5_parse_11 : decode cX5_parse 11 = .ok (.invokevirtual 117, 3) := dk_182 0 117 (dk_at dksX5_parse_0 11 rfl rfl)
theorem dX5_parse_14 : decode cX5_parse 14 = .ok (.aload_n 0, 1) := dk_42 (dk_at dksX5_parse_0 14 rfl rfl)
theorem dX5_parse_15 : decode cX5_parse 15 = .ok (.aload_n 0, 1) := dk_42 (dk_at dksX5_parse_0 15 rfl rfl)
theorem dX5_parse_16 : decode cX5_parse 16 = .ok (.getfield 30, 3) := dk_180 0 30 (dk_at dksX5_parse_0 16 rfl rfl)
theorem dX5_parse_19 : decode cX5_parse 19 = .ok (.invokevirtual 120, 3) := dk_182 0 120 (dk_at dksX5_parse_0 19 rfl rfl)
theorem dX5_parse_22 : decode cX5_parse 22 = .ok (.iconst 1, 1) := dk_4 (dk_at dksX5_parse_0 22 rfl rfl)
theorem dX5_parse_23 : decode cX5_parse 23 = .ok (.invokevirtual 107, 3) := dk_182 0 107 (dk_at dksX5_parse_1 0 rfl rfl)
theorem dX5_parse_26 : decode cX5_parse 26 = .ok (.aload_n 0, 1) := dk_42 (dk_at dksX5_parse_1 3 rfl rfl)
theorem dX5_parse_27 : decode cX5_parse 27 = .ok (.invokevirtual 100, 3) := dk_182 0 100 (dk_at dksX5_parse_1 4 rfl rfl)
theorem dX5_parse_30 : decode cX5_parse 30 = .ok (.goto (-30), 3) := dk_167 255 226 (dk_at dksX5_parse_1 7 rfl rfl)
theorem dX5_parse_33 : decode cX5_parse 33 = .ok (.aload_n 0, 1) := dk_42 (dk_at dksX5_parse_1 10 rfl rfl)
theorem dX5_parse_34 : decode cX5_parse 34 = .ok (.getfield 18, 3) := dk_180 0 18 (dk_at dksX5_parse_1 11 rfl rfl)
theorem dX5_parse_37 : decode cX5_parse 37 = .ok (.areturn, 1) := dk_176 (dk_at dksX5_parse_1 14 rfl rfl)
abbrev cX5_statement : ByteArray := prog_12_method_10_code
def yX5_statement : MethodName := ⟨RX5, "statement", "()V"⟩
def dkwX5_statement_9 : List UInt8 := [42, 182, 0, 177, 167, 0, 19, 187, 0, 88, 89, 4, 42, 180, 0, 30, 180, 0, 90, 183, 0, 93, 191, 177]
abbrev dktX5_statement_9 : List UInt8 := dkwX5_statement_9 ++ []
def dkwX5_statement_8 : List UInt8 := [18, 163, 182, 0, 165, 183, 0, 168, 182, 0, 171, 87, 167, 0, 35, 42, 18, 175, 182, 0, 165, 153, 0, 10]
abbrev dktX5_statement_8 : List UInt8 := dkwX5_statement_8 ++ dktX5_statement_9
def dkwX5_statement_7 : List UInt8 := [182, 0, 128, 42, 5, 16, 12, 182, 0, 157, 60, 42, 180, 0, 18, 180, 0, 154, 187, 0, 161, 89, 27, 42]
abbrev dktX5_statement_7 : List UInt8 := dkwX5_statement_7 ++ dktX5_statement_8
def dkwX5_statement_6 : List UInt8 := [153, 0, 62, 42, 42, 180, 0, 18, 180, 0, 154, 182, 0, 138, 7, 162, 0, 7, 4, 167, 0, 4, 3]
abbrev dktX5_statement_6 : List UInt8 := dkwX5_statement_6 ++ dktX5_statement_7
def dkwX5_statement_5 : List UInt8 := [4, 167, 0, 4, 3, 182, 0, 128, 42, 182, 0, 150, 167, 0, 106, 42, 180, 0, 30, 18, 152, 182, 0, 96]
abbrev dktX5_statement_5 : List UInt8 := dkwX5_statement_5 ++ dktX5_statement_6
def dkwX5_statement_4 : List UInt8 := [180, 0, 30, 18, 145, 182, 0, 96, 153, 0, 31, 42, 42, 180, 0, 18, 180, 0, 147, 16, 10, 162, 0, 7]
abbrev dktX5_statement_4 : List UInt8 := dkwX5_statement_4 ++ dktX5_statement_5
def dkwX5_statement_3 : List UInt8 := [182, 0, 138, 16, 24, 162, 0, 7, 4, 167, 0, 4, 3, 182, 0, 128, 42, 182, 0, 143, 167, 0, 146, 42]
abbrev dktX5_statement_3 : List UInt8 := dkwX5_statement_3 ++ dktX5_statement_4
def dkwX5_statement_2 : List UInt8 := [167, 0, 189, 42, 180, 0, 30, 18, 132, 182, 0, 96, 153, 0, 34, 42, 42, 180, 0, 18, 180, 0, 134]
abbrev dktX5_statement_2 : List UInt8 := dkwX5_statement_2 ++ dktX5_statement_3
def dkwX5_statement_1 : List UInt8 := [162, 0, 7, 4, 167, 0, 4, 3, 182, 0, 128, 42, 180, 0, 18, 89, 180, 0, 125, 4, 96, 181, 0, 125]
abbrev dktX5_statement_1 : List UInt8 := dkwX5_statement_1 ++ dktX5_statement_2
def dkwX5_statement_0 : List UInt8 := [42, 180, 0, 30, 18, 123, 182, 0, 96, 153, 0, 40, 42, 42, 180, 0, 18, 180, 0, 125, 16, 8]
abbrev dktX5_statement_0 : List UInt8 := dkwX5_statement_0 ++ dktX5_statement_1
theorem dksX5_statement_0 : cX5_statement.data.toList.drop 0 = dktX5_statement_0 := by decide +kernel
theorem dksX5_statement_1 : cX5_statement.data.toList.drop 22 = dktX5_statement_1 := dk_seg dksX5_statement_0 22 rfl rfl
theorem dksX5_statement_2 : cX5_statement.data.toList.drop 46 = dktX5_statement_2 := dk_seg dksX5_statement_1 24 rfl rfl
theorem dksX5_statement_3 : cX5_statement.data.toList.drop 69 = dktX5_statement_3 := dk_seg dksX5_statement_2 23 rfl rfl
theorem dksX5_statement_4 : cX5_statement.data.toList.drop 93 = dktX5_statement_4 := dk_seg dksX5_statement_3 24 rfl rfl
theorem dksX5_statement_5 : cX5_statement.data.toList.drop 117 = dktX5_statement_5 := dk_seg dksX5_statement_4 24 rfl rfl
theorem dksX5_statement_6 : cX5_statement.data.toList.drop 141 = dktX5_statement_6 := dk_seg dksX5_statement_5 24 rfl rfl
theorem dksX5_statement_7 : cX5_statement.data.toList.drop 164 = dktX5_statement_7 := dk_seg dksX5_statement_6 23 rfl rfl
theorem dksX5_statement_8 : cX5_statement.data.toList.drop 188 = dktX5_statement_8 := dk_seg dksX5_statement_7 24 rfl rfl
theorem dksX5_statement_9 : cX5_statement.data.toList.drop 212 = dktX5_statement_9 := dk_seg dksX5_statement_8 24 rfl rfl
theorem dX5_statement_0 : decode cX5_statement 0 = .ok (.aload_n 0, 1) := dk_42 (dk_at dksX5_statement_0 0 rfl rfl)
theorem dX5_statement_1 : decode cX5_statement 1 = .ok (.getfield 30, 3) := dk_180 0 30 (dk_at dksX5_statement_0 1 rfl rfl)
theorem dX5_statement_4 : decode cX5_statement 4 = .ok (.ldc 123, 2) := dk_18 123 (dk_at dksX5_statement_0 4 rfl rfl)
theorem dX5_statement_6 : decode cX5_statement 6 = .ok (.invokevirtual 96, 3) := dk_182 0 96 (dk_at dksX5_statement_0 6 rfl rfl)
theorem dX5_statement_9 : decode cX5_statement 9 = .ok (.ifCond .eq 40, 3) := dk_153 0 40 (dk_at dksX5_statement_0 9 rfl rfl)
theorem dX5_statement_12 : decode cX5_statement 12 = .ok (.aload_n 0, 1) := dk_42 (dk_at dksX5_statement_0 12 rfl rfl)
theorem dX5_statement_13 : decode cX5_statement 13 = .ok (.aload_n 0, 1) := dk_42 (dk_at dksX5_statement_0 13 rfl rfl)
theorem dX5_statement_14 : decode cX5_statement 14 = .ok (.getfield 18, 3) := dk_180 0 18 (dk_at dksX5_statement_0 14 rfl rfl)
theorem dX5_statement_17 : decode cX5_statement 17 = .ok (.getfield 125, 3) := dk_180 0 125 (dk_at dksX5_statement_0 17 rfl rfl)
theorem dX5_statement_20 : decode cX5_statement 20 = .ok (.bipush 8, 2) := dk_16 8 (dk_at dksX5_statement_0 20 rfl rfl)
theorem dX5_statement_22 : decode cX5_statement 22 = .ok (.if_icmp .ge 7, 3) := dk_162 0 7 (dk_at dksX5_statement_1 0 rfl rfl)
theorem dX5_statement_25 : decode cX5_statement 25 = .ok (.iconst 1, 1) := dk_4 (dk_at dksX5_statement_1 3 rfl rfl)
theorem dX5_statement_26 : decode cX5_statement 26 = .ok (.goto 4, 3) := dk_167 0 4 (dk_at dksX5_statement_1 4 rfl rfl)
theorem dX5_statement_29 : decode cX5_statement 29 = .ok (.iconst 0, 1) := dk_3 (dk_at dksX5_statement_1 7 rfl rfl)
theorem dX5_statement_30 : decode cX5_statement 30 = .ok (.invokevirtual 128, 3) := dk_182 0 128 (dk_at dksX5_statement_1 8 rfl rfl)
theorem dX5_statement_33 : decode cX5_statement 33 = .ok (.aload_n 0, 1) := dk_42 (dk_at dksX5_statement_1 11 rfl rfl)
theorem dX5_statement_34 : decode cX5_statement 34 = .ok (.getfield 18, 3) := dk_180 0 18 (dk_at dksX5_statement_1 12 rfl rfl)
theorem dX5_statement_37 : decode cX5_statement 37 = .ok (.dup, 1) := dk_89 (dk_at dksX5_statement_1 15 rfl rfl)
theorem dX5_statement_38 : decode cX5_statement 38 = .ok (.getfield 125, 3) := dk_180 0 125 (dk_at dksX5_statement_1 16 rfl rfl)
theorem dX5_statement_41 : decode cX5_statement 41 = .ok (.iconst 1, 1) := dk_4 (dk_at dksX5_statement_1 19 rfl rfl)
theorem dX5_statement_42 : decode cX5_statement 42 = .ok (.iadd, 1) := dk_96 (dk_at dksX5_statement_1 20 rfl rfl)
theorem dX5_statement_43 : decode cX5_statement 43 = .ok (.putfield 125, 3) := dk_181 0 125 (dk_at dksX5_statement_1 21 rfl rfl)
theorem dX5_statement_46 : decode cX5_statement 46 = .ok (.goto 189, 3) := dk_167 0 189 (dk_at dksX5_statement_2 0 rfl rfl)
theorem dX5_statement_49 : decode cX5_statement 49 = .ok (.aload_n 0, 1) := dk_42 (dk_at dksX5_statement_2 3 rfl rfl)
theorem dX5_statement_50 : decode cX5_statement 50 = .ok (.getfield 30, 3) := dk_180 0 30 (dk_at dksX5_statement_2 4 rfl rfl)
theorem dX5_statement_53 : decode cX5_statement 53 = .ok (.ldc 132, 2) := dk_18 132 (dk_at dksX5_statement_2 7 rfl rfl)
theorem dX5_statement_55 : decode cX5_statement 55 = .ok (.invokevirtual 96, 3) := dk_182 0 96 (dk_at dksX5_statement_2 9 rfl rfl)
theorem dX5_statement_58 : decode cX5_statement 58 = .ok (.ifCond .eq 34, 3) := dk_153 0 34 (dk_at dksX5_statement_2 12 rfl rfl)
theorem dX5_statement_61 : decode cX5_statement 61 = .ok (.aload_n 0, 1) := dk_42 (dk_at dksX5_statement_2 15 rfl rfl)
theorem dX5_statement_62 : decode cX5_statement 62 = .ok (.aload_n 0, 1) := dk_42 (dk_at dksX5_statement_2 16 rfl rfl)
theorem dX5_statement_63 : decode cX5_statement 63 = .ok (.getfield 18, 3) := dk_180 0 18 (dk_at dksX5_statement_2 17 rfl rfl)
theorem dX5_statement_66 : decode cX5_statement 66 = .ok (.getfield 134, 3) := dk_180 0 134 (dk_at dksX5_statement_2 20 rfl rfl)
theorem dX5_statement_69 : decode cX5_statement 69 = .ok (.invokevirtual 138, 3) := dk_182 0 138 (dk_at dksX5_statement_3 0 rfl rfl)
theorem dX5_statement_72 : decode cX5_statement 72 = .ok (.bipush 24, 2) := dk_16 24 (dk_at dksX5_statement_3 3 rfl rfl)
theorem dX5_statement_74 : decode cX5_statement 74 = .ok (.if_icmp .ge 7, 3) := dk_162 0 7 (dk_at dksX5_statement_3 5 rfl rfl)
theorem dX5_statement_77 : decode cX5_statement 77 = .ok (.iconst 1, 1) := dk_4 (dk_at dksX5_statement_3 8 rfl rfl)
theorem dX5_statement_78 : decode cX5_statement 78 = .ok (.goto 4, 3) := dk_167 0 4 (dk_at dksX5_statement_3 9 rfl rfl)
theorem dX5_statement_81 : decode cX5_statement 81 = .ok (.iconst 0, 1) := dk_3 (dk_at dksX5_statement_3 12 rfl rfl)
theorem dX5_statement_82 : decode cX5_statement 82 = .ok (.invokevirtual 128, 3) := dk_182 0 128 (dk_at dksX5_statement_3 13 rfl rfl)
theorem dX5_statement_85 : decode cX5_statement 85 = .ok (.aload_n 0, 1) := dk_42 (dk_at dksX5_statement_3 16 rfl rfl)
theorem dX5_statement_86 : decode cX5_statement 86 = .ok (.invokevirtual 143, 3) := dk_182 0 143 (dk_at dksX5_statement_3 17 rfl rfl)
theorem dX5_statement_89 : decode cX5_statement 89 = .ok (.goto 146, 3) := dk_167 0 146 (dk_at dksX5_statement_3 20 rfl rfl)
theorem dX5_statement_92 : decode cX5_statement 92 = .ok (.aload_n 0, 1) := dk_42 (dk_at dksX5_statement_3 23 rfl rfl)
theorem dX5_statement_93 : decode cX5_statement 93 = .ok (.getfield 30, 3) := dk_180 0 30 (dk_at dksX5_statement_4 0 rfl rfl)
theorem dX5_statement_96 : decode cX5_statement 96 = .ok (.ldc 145, 2) := dk_18 145 (dk_at dksX5_statement_4 3 rfl rfl)
theorem dX5_statement_98 : decode cX5_statement 98 = .ok (.invokevirtual 96, 3) := dk_182 0 96 (dk_at dksX5_statement_4 5 rfl rfl)
theorem dX5_statement_101 : decode cX5_statement 101 = .ok (.ifCond .eq 31, 3) := dk_153 0 31 (dk_at dksX5_statement_4 8 rfl rfl)
theorem dX5_statement_104 : decode cX5_statement 104 = .ok (.aload_n 0, 1) := dk_42 (dk_at dksX5_statement_4 11 rfl rfl)
theorem dX5_statement_105 : decode cX5_statement 105 = .ok (.aload_n 0, 1) := dk_42 (dk_at dksX5_statement_4 12 rfl rfl)
theorem dX5_statement_106 : decode cX5_statement 106 = .ok (.getfield 18, 3) := dk_180 0 18 (dk_at dksX5_statement_4 13 rfl rfl)
theorem dX5_statement_109 : decode cX5_statement 109 = .ok (.getfield 147, 3) := dk_180 0 147 (dk_at dksX5_statement_4 16 rfl rfl)
theorem dX5_statement_112 : decode cX5_statement 112 = .ok (.bipush 10, 2) := dk_16 10 (dk_at dksX5_statement_4 19 rfl rfl)
theorem dX5_statement_114 : decode cX5_statement 114 = .ok (.if_icmp .ge 7, 3) := dk_162 0 7 (dk_at dksX5_statement_4 21 rfl rfl)
theorem dX5_statement_117 : decode cX5_statement 117 = .ok (.iconst 1, 1) := dk_4 (dk_at dksX5_statement_5 0 rfl rfl)
theorem dX5_statement_118 : decode cX5_statement 118 = .ok (.goto 4, 3) := dk_167 0 4 (dk_at dksX5_statement_5 1 rfl rfl)
theorem dX5_statement_121 : decode cX5_statement 121 = .ok (.iconst 0, 1) := dk_3 (dk_at dksX5_statement_5 4 rfl rfl)
theorem dX5_statement_122 : decode cX5_statement 122 = .ok (.invokevirtual 128, 3) := dk_182 0 128 (dk_at dksX5_statement_5 5 rfl rfl)
theorem dX5_statement_125 : decode cX5_statement 125 = .ok (.aload_n 0, 1) := dk_42 (dk_at dksX5_statement_5 8 rfl rfl)
theorem dX5_statement_126 : decode cX5_statement 126 = .ok (.invokevirtual 150, 3) := dk_182 0 150 (dk_at dksX5_statement_5 9 rfl rfl)
theorem dX5_statement_129 : decode cX5_statement 129 = .ok (.goto 106, 3) := dk_167 0 106 (dk_at dksX5_statement_5 12 rfl rfl)
theorem dX5_statement_132 : decode cX5_statement 132 = .ok (.aload_n 0, 1) := dk_42 (dk_at dksX5_statement_5 15 rfl rfl)
theorem dX5_statement_133 : decode cX5_statement 133 = .ok (.getfield 30, 3) := dk_180 0 30 (dk_at dksX5_statement_5 16 rfl rfl)
theorem dX5_statement_136 : decode cX5_statement 136 = .ok (.ldc 152, 2) := dk_18 152 (dk_at dksX5_statement_5 19 rfl rfl)
theorem dX5_statement_138 : decode cX5_statement 138 = .ok (.invokevirtual 96, 3) := dk_182 0 96 (dk_at dksX5_statement_5 21 rfl rfl)
theorem dX5_statement_141 : decode cX5_statement 141 = .ok (.ifCond .eq 62, 3) := dk_153 0 62 (dk_at dksX5_statement_6 0 rfl rfl)
theorem dX5_statement_144 : decode cX5_statement 144 = .ok (.aload_n 0, 1) := dk_42 (dk_at dksX5_statement_6 3 rfl rfl)
theorem dX5_statement_145 : decode cX5_statement 145 = .ok (.aload_n 0, 1) := dk_42 (dk_at dksX5_statement_6 4 rfl rfl)
theorem dX5_statement_146 : decode cX5_statement 146 = .ok (.getfield 18, 3) := dk_180 0 18 (dk_at dksX5_statement_6 5 rfl rfl)
theorem dX5_statement_149 : decode cX5_statement 149 = .ok (.getfield 154, 3) := dk_180 0 154 (dk_at dksX5_statement_6 8 rfl rfl)
theorem dX5_statement_152 : decode cX5_statement 152 = .ok (.invokevirtual 138, 3) := dk_182 0 138 (dk_at dksX5_statement_6 11 rfl rfl)
theorem dX5_statement_155 : decode cX5_statement 155 = .ok (.iconst 4, 1) := dk_7 (dk_at dksX5_statement_6 14 rfl rfl)
theorem dX5_statement_156 : decode cX5_statement 156 = .ok (.if_icmp .ge 7, 3) := dk_162 0 7 (dk_at dksX5_statement_6 15 rfl rfl)
theorem dX5_statement_159 : decode cX5_statement 159 = .ok (.iconst 1, 1) := dk_4 (dk_at dksX5_statement_6 18 rfl rfl)
theorem dX5_statement_160 : decode cX5_statement 160 = .ok (.goto 4, 3) := dk_167 0 4 (dk_at dksX5_statement_6 19 rfl rfl)
theorem dX5_statement_163 : decode cX5_statement 163 = .ok (.iconst 0, 1) := dk_3 (dk_at dksX5_statement_6 22 rfl rfl)
theorem dX5_statement_164 : decode cX5_statement 164 = .ok (.invokevirtual 128, 3) := dk_182 0 128 (dk_at dksX5_statement_7 0 rfl rfl)
theorem dX5_statement_167 : decode cX5_statement 167 = .ok (.aload_n 0, 1) := dk_42 (dk_at dksX5_statement_7 3 rfl rfl)
theorem dX5_statement_168 : decode cX5_statement 168 = .ok (.iconst 2, 1) := dk_5 (dk_at dksX5_statement_7 4 rfl rfl)
theorem dX5_statement_169 : decode cX5_statement 169 = .ok (.bipush 12, 2) := dk_16 12 (dk_at dksX5_statement_7 5 rfl rfl)
theorem dX5_statement_171 : decode cX5_statement 171 = .ok (.invokevirtual 157, 3) := dk_182 0 157 (dk_at dksX5_statement_7 7 rfl rfl)
theorem dX5_statement_174 : decode cX5_statement 174 = .ok (.istore_n 1, 1) := dk_60 (dk_at dksX5_statement_7 10 rfl rfl)
theorem dX5_statement_175 : decode cX5_statement 175 = .ok (.aload_n 0, 1) := dk_42 (dk_at dksX5_statement_7 11 rfl rfl)
theorem dX5_statement_176 : decode cX5_statement 176 = .ok (.getfield 18, 3) := dk_180 0 18 (dk_at dksX5_statement_7 12 rfl rfl)
theorem dX5_statement_179 : decode cX5_statement 179 = .ok (.getfield 154, 3) := dk_180 0 154 (dk_at dksX5_statement_7 15 rfl rfl)
theorem dX5_statement_182 : decode cX5_statement 182 = .ok (.new 161, 3) := dk_187 0 161 (dk_at dksX5_statement_7 18 rfl rfl)
theorem dX5_statement_185 : decode cX5_statement 185 = .ok (.dup, 1) := dk_89 (dk_at dksX5_statement_7 21 rfl rfl)
theorem dX5_statement_186 : decode cX5_statement 186 = .ok (.iload_n 1, 1) := dk_27 (dk_at dksX5_statement_7 22 rfl rfl)
theorem dX5_statement_187 : decode cX5_statement 187 = .ok (.aload_n 0, 1) := dk_42 (dk_at dksX5_statement_7 23 rfl rfl)
theorem dX5_statement_188 : decode cX5_statement 188 = .ok (.ldc 163, 2) := dk_18 163 (dk_at dksX5_statement_8 0 rfl rfl)
theorem dX5_statement_190 : decode cX5_statement 190 = .ok (.invokevirtual 165, 3) := dk_182 0 165 (dk_at dksX5_statement_8 2 rfl rfl)
theorem dX5_statement_193 : decode cX5_statement 193 = .ok (.invokespecial 168, 3) := dk_183 0 168 (dk_at dksX5_statement_8 5 rfl rfl)
theorem dX5_statement_196 : decode cX5_statement 196 = .ok (.invokevirtual 171, 3) := dk_182 0 171 (dk_at dksX5_statement_8 8 rfl rfl)
theorem dX5_statement_199 : decode cX5_statement 199 = .ok (.pop, 1) := dk_87 (dk_at dksX5_statement_8 11 rfl rfl)
theorem dX5_statement_200 : decode cX5_statement 200 = .ok (.goto 35, 3) := dk_167 0 35 (dk_at dksX5_statement_8 12 rfl rfl)
theorem dX5_statement_203 : decode cX5_statement 203 = .ok (.aload_n 0, 1) := dk_42 (dk_at dksX5_statement_8 15 rfl rfl)
theorem dX5_statement_204 : decode cX5_statement 204 = .ok (.ldc 175, 2) := dk_18 175 (dk_at dksX5_statement_8 16 rfl rfl)
theorem dX5_statement_206 : decode cX5_statement 206 = .ok (.invokevirtual 165, 3) := dk_182 0 165 (dk_at dksX5_statement_8 18 rfl rfl)
theorem dX5_statement_209 : decode cX5_statement 209 = .ok (.ifCond .eq 10, 3) := dk_153 0 10 (dk_at dksX5_statement_8 21 rfl rfl)
theorem dX5_statement_212 : decode cX5_statement 212 = .ok (.aload_n 0, 1) := dk_42 (dk_at dksX5_statement_9 0 rfl rfl)
theorem dX5_statement_213 : decode cX5_statement 213 = .ok (.invokevirtual 177, 3) := dk_182 0 177 (dk_at dksX5_statement_9 1 rfl rfl)
theorem dX5_statement_216 : decode cX5_statement 216 = .ok (.goto 19, 3) := dk_167 0 19 (dk_at dksX5_statement_9 4 rfl rfl)
theorem dX5_statement_219 : decode cX5_statement 219 = .ok (.new 88, 3) := dk_187 0 88 (dk_at dksX5_statement_9 7 rfl rfl)
theorem dX5_statement_222 : decode cX5_statement 222 = .ok (.dup, 1) := dk_89 (dk_at dksX5_statement_9 10 rfl rfl)
theorem dX5_statement_223 : decode cX5_statement 223 = .ok (.iconst 1, 1) := dk_4 (dk_at dksX5_statement_9 11 rfl rfl)
theorem dX5_statement_224 : decode cX5_statement 224 = .ok (.aload_n 0, 1) := dk_42 (dk_at dksX5_statement_9 12 rfl rfl)
theorem dX5_statement_225 : decode cX5_statement 225 = .ok (.getfield 30, 3) := dk_180 0 30 (dk_at dksX5_statement_9 13 rfl rfl)
theorem dX5_statement_228 : decode cX5_statement 228 = .ok (.getfield 90, 3) := dk_180 0 90 (dk_at dksX5_statement_9 16 rfl rfl)
theorem dX5_statement_231 : decode cX5_statement 231 = .ok (.invokespecial 93, 3) := dk_183 0 93 (dk_at dksX5_statement_9 19 rfl rfl)
theorem dX5_statement_234 : decode cX5_statement 234 = .ok (.athrow, 1) := dk_191 (dk_at dksX5_statement_9 22 rfl rfl)
theorem dX5_statement_235 : decode cX5_statement 235 = .ok (.return_, 1) := dk_177 (dk_at dksX5_statement_9 23 rfl rfl)
abbrev cX5_begin : ByteArray := prog_12_method_9_code
def yX5_begin : MethodName := ⟨RX5, "begin", "(Z)V"⟩
def dkwX5_begin_0 : List UInt8 := [42, 27, 7, 182, 0, 107, 42, 182, 0, 100, 177]
abbrev dktX5_begin_0 : List UInt8 := dkwX5_begin_0 ++ []
theorem dksX5_begin_0 : cX5_begin.data.toList.drop 0 = dktX5_begin_0 := by decide +kernel
theorem dX5_begin_0 : decode cX5_begin 0 = .ok (.aload_n 0, 1) := dk_42 (dk_at dksX5_begin_0 0 rfl rfl)
theorem dX5_begin_1 : decode cX5_begin 1 = .ok (.iload_n 1, 1) := dk_27 (dk_at dksX5_begin_0 1 rfl rfl)
theorem dX5_begin_2 : decode cX5_begin 2 = .ok (.iconst 4, 1) := dk_7 (dk_at dksX5_begin_0 2 rfl rfl)
theorem dX5_begin_3 : decode cX5_begin 3 = .ok (.invokevirtual 107, 3) := dk_182 0 107 (dk_at dksX5_begin_0 3 rfl rfl)
theorem dX5_begin_6 : decode cX5_begin 6 = .ok (.aload_n 0, 1) := dk_42 (dk_at dksX5_begin_0 6 rfl rfl)
theorem dX5_begin_7 : decode cX5_begin 7 = .ok (.invokevirtual 100, 3) := dk_182 0 100 (dk_at dksX5_begin_0 7 rfl rfl)
theorem dX5_begin_10 : decode cX5_begin 10 = .ok (.return_, 1) := dk_177 (dk_at dksX5_begin_0 10 rfl rfl)
abbrev cX5_require : ByteArray := prog_12_method_5_code
def yX5_require : MethodName := ⟨RX5, "require", "(ZI)V"⟩
def dkwX5_require_0 : List UInt8 := [27, 154, 0, 19, 187, 0, 88, 89, 28, 42, 180, 0, 30, 180, 0, 90, 183, 0, 93, 191, 177]
abbrev dktX5_require_0 : List UInt8 := dkwX5_require_0 ++ []
theorem dksX5_require_0 : cX5_require.data.toList.drop 0 = dktX5_require_0 := by decide +kernel
theorem dX5_require_0 : decode cX5_require 0 = .ok (.iload_n 1, 1) := dk_27 (dk_at dksX5_require_0 0 rfl rfl)
theorem dX5_require_1 : decode cX5_require 1 = .ok (.ifCond .ne 19, 3) := dk_154 0 19 (dk_at dksX5_require_0 1 rfl rfl)
theorem dX5_require_4 : decode cX5_require 4 = .ok (.new 88, 3) := dk_187 0 88 (dk_at dksX5_require_0 4 rfl rfl)
theorem dX5_require_7 : decode cX5_require 7 = .ok (.dup, 1) := dk_89 (dk_at dksX5_require_0 7 rfl rfl)
theorem dX5_require_8 : decode cX5_require 8 = .ok (.iload_n 2, 1) := dk_28 (dk_at dksX5_require_0 8 rfl rfl)
theorem dX5_require_9 : decode cX5_require 9 = .ok (.aload_n 0, 1) := dk_42 (dk_at dksX5_require_0 9 rfl rfl)
theorem dX5_require_10 : decode cX5_require 10 = .ok (.getfield 30, 3) := dk_180 0 30 (dk_at dksX5_require_0 10 rfl rfl)
theorem dX5_require_13 : decode cX5_require 13 = .ok (.getfield 90, 3) := dk_180 0 90 (dk_at dksX5_require_0 13 rfl rfl)
theorem dX5_require_16 : decode cX5_require 16 = .ok (.invokespecial 93, 3) := dk_183 0 93 (dk_at dksX5_require_0 16 rfl rfl)
theorem dX5_require_19 : decode cX5_require 19 = .ok (.athrow, 1) := dk_191 (dk_at dksX5_require_0 19 rfl rfl)
theorem dX5_require_20 : decode cX5_require 20 = .ok (.return_, 1) := dk_177 (dk_at dksX5_require_0 20 rfl rfl)
abbrev cX5_advance : ByteArray := prog_12_method_4_code
def yX5_advance : MethodName := ⟨RX5, "advance", "()V"⟩
def dkwX5_advance_0 : List UInt8 := [42, 42, 42, 180, 0, 30, 180, 0, 83, 182, 0, 26, 181, 0, 30, 177]
abbrev dktX5_advance_0 : List UInt8 := dkwX5_advance_0 ++ []
theorem dksX5_advance_0 : cX5_advance.data.toList.drop 0 = dktX5_advance_0 := by decide +kernel
theorem dX5_advance_0 : decode cX5_advance 0 = .ok (.aload_n 0, 1) := dk_42 (dk_at dksX5_advance_0 0 rfl rfl)
theorem dX5_advance_1 : decode cX5_advance 1 = .ok (.aload_n 0, 1) := dk_42 (dk_at dksX5_advance_0 1 rfl rfl)
theorem dX5_advance_2 : decode cX5_advance 2 = .ok (.aload_n 0, 1) := dk_42 (dk_at dksX5_advance_0 2 rfl rfl)
theorem dX5_advance_3 : decode cX5_advance 3 = .ok (.getfield 30, 3) := dk_180 0 30 (dk_at dksX5_advance_0 3 rfl rfl)
theorem dX5_advance_6 : decode cX5_advance 6 = .ok (.getfield 83, 3) := dk_180 0 83 (dk_at dksX5_advance_0 6 rfl rfl)
theorem dX5_advance_9 : decode cX5_advance 9 = .ok (.invokevirtual 26, 3) := dk_182 0 26 (dk_at dksX5_advance_0 9 rfl rfl)
theorem dX5_advance_12 : decode cX5_advance 12 = .ok (.putfield 30, 3) := dk_181 0 30 (dk_at dksX5_advance_0 12 rfl rfl)
theorem dX5_advance_15 : decode cX5_advance 15 = .ok (.return_, 1) := dk_177 (dk_at dksX5_advance_0 15 rfl rfl)
abbrev cX5_scale : ByteArray := prog_12_method_11_code
def yX5_scale : MethodName := ⟨RX5, "scale", "()V"⟩
def dkwX5_scale_2 : List UInt8 := [29, 104, 18, 181, 182, 0, 157, 183, 0, 182, 182, 0, 171, 87, 177]
abbrev dktX5_scale_2 : List UInt8 := dkwX5_scale_2 ++ []
def dkwX5_scale_1 : List UInt8 := [17, 3, 232, 182, 0, 157, 62, 42, 180, 0, 18, 180, 0, 134, 187, 0, 179, 89, 27, 28, 29, 42, 16, 20]
abbrev dktX5_scale_1 : List UInt8 := dkwX5_scale_1 ++ dktX5_scale_2
def dkwX5_scale_0 : List UInt8 := [42, 3, 42, 180, 0, 18, 180, 0, 125, 4, 100, 182, 0, 157, 60, 42, 3, 5, 182, 0, 157, 61, 42, 4]
abbrev dktX5_scale_0 : List UInt8 := dkwX5_scale_0 ++ dktX5_scale_1
theorem dksX5_scale_0 : cX5_scale.data.toList.drop 0 = dktX5_scale_0 := by decide +kernel
theorem dksX5_scale_1 : cX5_scale.data.toList.drop 24 = dktX5_scale_1 := dk_seg dksX5_scale_0 24 rfl rfl
theorem dksX5_scale_2 : cX5_scale.data.toList.drop 48 = dktX5_scale_2 := dk_seg dksX5_scale_1 24 rfl rfl
theorem dX5_scale_0 : decode cX5_scale 0 = .ok (.aload_n 0, 1) := dk_42 (dk_at dksX5_scale_0 0 rfl rfl)
theorem dX5_scale_1 : decode cX5_scale 1 = .ok (.iconst 0, 1) := dk_3 (dk_at dksX5_scale_0 1 rfl rfl)
theorem dX5_scale_2 : decode cX5_scale 2 = .ok (.aload_n 0, 1) := dk_42 (dk_at dksX5_scale_0 2 rfl rfl)
theorem dX5_scale_3 : decode cX5_scale 3 = .ok (.getfield 18, 3) := dk_180 0 18 (dk_at dksX5_scale_0 3 rfl rfl)
theorem dX5_scale_6 : decode cX5_scale 6 = .ok (.getfield 125, 3) := dk_180 0 125 (dk_at dksX5_scale_0 6 rfl rfl)
theorem dX5_scale_9 : decode cX5_scale 9 = .ok (.iconst 1, 1) := dk_4 (dk_at dksX5_scale_0 9 rfl rfl)
theorem dX5_scale_10 : decode cX5_scale 10 = .ok (.isub, 1) := dk_100 (dk_at dksX5_scale_0 10 rfl rfl)
theorem dX5_scale_11 : decode cX5_scale 11 = .ok (.invokevirtual 157, 3) := dk_182 0 157 (dk_at dksX5_scale_0 11 rfl rfl)
theorem dX5_scale_14 : decode cX5_scale 14 = .ok (.istore_n 1, 1) := dk_60 (dk_at dksX5_scale_0 14 rfl rfl)
theorem dX5_scale_15 : decode cX5_scale 15 = .ok (.aload_n 0, 1) := dk_42 (dk_at dksX5_scale_0 15 rfl rfl)
theorem dX5_scale_16 : decode cX5_scale 16 = .ok (.iconst 0, 1) := dk_3 (dk_at dksX5_scale_0 16 rfl rfl)
theorem dX5_scale_17 : decode cX5_scale 17 = .ok (.iconst 2, 1) := dk_5 (dk_at dksX5_scale_0 17 rfl rfl)
theorem dX5_scale_18 : decode cX5_scale 18 = .ok (.invokevirtual 157, 3) := dk_182 0 157 (dk_at dksX5_scale_0 18 rfl rfl)
theorem dX5_scale_21 : decode cX5_scale 21 = .ok (.istore_n 2, 1) := dk_61 (dk_at dksX5_scale_0 21 rfl rfl)
theorem dX5_scale_22 : decode cX5_scale 22 = .ok (.aload_n 0, 1) := dk_42 (dk_at dksX5_scale_0 22 rfl rfl)
theorem dX5_scale_23 : decode cX5_scale 23 = .ok (.iconst 1, 1) := dk_4 (dk_at dksX5_scale_0 23 rfl rfl)
theorem dX5_scale_24 : decode cX5_scale 24 = .ok (.sipush 1000, 3) := dk_17 3 232 (dk_at dksX5_scale_1 0 rfl rfl)
theorem dX5_scale_27 : decode cX5_scale 27 = .ok (.invokevirtual 157, 3) := dk_182 0 157 (dk_at dksX5_scale_1 3 rfl rfl)
theorem dX5_scale_30 : decode cX5_scale 30 = .ok (.istore_n 3, 1) := dk_62 (dk_at dksX5_scale_1 6 rfl rfl)
theorem dX5_scale_31 : decode cX5_scale 31 = .ok (.aload_n 0, 1) := dk_42 (dk_at dksX5_scale_1 7 rfl rfl)
theorem dX5_scale_32 : decode cX5_scale 32 = .ok (.getfield 18, 3) := dk_180 0 18 (dk_at dksX5_scale_1 8 rfl rfl)
theorem dX5_scale_35 : decode cX5_scale 35 = .ok (.getfield 134, 3) := dk_180 0 134 (dk_at dksX5_scale_1 11 rfl rfl)
theorem dX5_scale_38 : decode cX5_scale 38 = .ok (.new 179, 3) := dk_187 0 179 (dk_at dksX5_scale_1 14 rfl rfl)
theorem dX5_scale_41 : decode cX5_scale 41 = .ok (.dup, 1) := dk_89 (dk_at dksX5_scale_1 17 rfl rfl)
theorem dX5_scale_42 : decode cX5_scale 42 = .ok (.iload_n 1, 1) := dk_27 (dk_at dksX5_scale_1 18 rfl rfl)
theorem dX5_scale_43 : decode cX5_scale 43 = .ok (.iload_n 2, 1) := dk_28 (dk_at dksX5_scale_1 19 rfl rfl)
theorem dX5_scale_44 : decode cX5_scale 44 = .ok (.iload_n 3, 1) := dk_29 (dk_at dksX5_scale_1 20 rfl rfl)
theorem dX5_scale_45 : decode cX5_scale 45 = .ok (.aload_n 0, 1) := dk_42 (dk_at dksX5_scale_1 21 rfl rfl)
theorem dX5_scale_46 : decode cX5_scale 46 = .ok (.bipush 20, 2) := dk_16 20 (dk_at dksX5_scale_1 22 rfl rfl)
theorem dX5_scale_48 : decode cX5_scale 48 = .ok (.iload_n 3, 1) := dk_29 (dk_at dksX5_scale_2 0 rfl rfl)
theorem dX5_scale_49 : decode cX5_scale 49 = .ok (.imul, 1) := dk_104 (dk_at dksX5_scale_2 1 rfl rfl)
theorem dX5_scale_50 : decode cX5_scale 50 = .ok (.ldc 181, 2) := dk_18 181 (dk_at dksX5_scale_2 2 rfl rfl)
theorem dX5_scale_52 : decode cX5_scale 52 = .ok (.invokevirtual 157, 3) := dk_182 0 157 (dk_at dksX5_scale_2 4 rfl rfl)
theorem dX5_scale_55 : decode cX5_scale 55 = .ok (.invokespecial 182, 3) := dk_183 0 182 (dk_at dksX5_scale_2 7 rfl rfl)
theorem dX5_scale_58 : decode cX5_scale 58 = .ok (.invokevirtual 171, 3) := dk_182 0 171 (dk_at dksX5_scale_2 10 rfl rfl)
theorem dX5_scale_61 : decode cX5_scale 61 = .ok (.pop, 1) := dk_87 (dk_at dksX5_scale_2 13 rfl rfl)
theorem dX5_scale_62 : decode cX5_scale 62 = .ok (.return_, 1) := dk_177 (dk_at dksX5_scale_2 14 rfl rfl)
abbrev cX5_number : ByteArray := prog_12_method_7_code
def yX5_number : MethodName := ⟨RX5, "number", "(II)I"⟩
def dkwX5_number_1 : List UInt8 := [133, 184, 0, 46, 6, 182, 0, 107, 42, 180, 0, 30, 182, 0, 111, 62, 42, 182, 0, 100, 29, 172]
abbrev dktX5_number_1 : List UInt8 := dkwX5_number_1 ++ []
def dkwX5_number_0 : List UInt8 := [42, 42, 180, 0, 30, 182, 0, 103, 4, 182, 0, 107, 42, 42, 180, 0, 30, 182, 0, 111, 133, 27, 133, 28]
abbrev dktX5_number_0 : List UInt8 := dkwX5_number_0 ++ dktX5_number_1
theorem dksX5_number_0 : cX5_number.data.toList.drop 0 = dktX5_number_0 := by decide +kernel
theorem dksX5_number_1 : cX5_number.data.toList.drop 24 = dktX5_number_1 := dk_seg dksX5_number_0 24 rfl rfl
theorem dX5_number_0 : decode cX5_number 0 = .ok (.aload_n 0, 1) := dk_42 (dk_at dksX5_number_0 0 rfl rfl)
theorem dX5_number_1 : decode cX5_number 1 = .ok (.aload_n 0, 1) := dk_42 (dk_at dksX5_number_0 1 rfl rfl)
theorem dX5_number_2 : decode cX5_number 2 = .ok (.getfield 30, 3) := dk_180 0 30 (dk_at dksX5_number_0 2 rfl rfl)
theorem dX5_number_5 : decode cX5_number 5 = .ok (.invokevirtual 103, 3) := dk_182 0 103 (dk_at dksX5_number_0 5 rfl rfl)
theorem dX5_number_8 : decode cX5_number 8 = .ok (.iconst 1, 1) := dk_4 (dk_at dksX5_number_0 8 rfl rfl)
theorem dX5_number_9 : decode cX5_number 9 = .ok (.invokevirtual 107, 3) := dk_182 0 107 (dk_at dksX5_number_0 9 rfl rfl)
theorem dX5_number_12 : decode cX5_number 12 = .ok (.aload_n 0, 1) := dk_42 (dk_at dksX5_number_0 12 rfl rfl)
theorem dX5_number_13 : decode cX5_number 13 = .ok (.aload_n 0, 1) := dk_42 (dk_at dksX5_number_0 13 rfl rfl)
theorem dX5_number_14 : decode cX5_number 14 = .ok (.getfield 30, 3) := dk_180 0 30 (dk_at dksX5_number_0 14 rfl rfl)
theorem dX5_number_17 : decode cX5_number 17 = .ok (.invokevirtual 111, 3) := dk_182 0 111 (dk_at dksX5_number_0 17 rfl rfl)
theorem dX5_number_20 : decode cX5_number 20 = .ok (.i2l, 1) := dk_133 (dk_at dksX5_number_0 20 rfl rfl)
theorem dX5_number_21 : decode cX5_number 21 = .ok (.iload_n 1, 1) := dk_27 (dk_at dksX5_number_0 21 rfl rfl)
theorem dX5_number_22 : decode cX5_number 22 = .ok (.i2l, 1) := dk_133 (dk_at dksX5_number_0 22 rfl rfl)
theorem dX5_number_23 : decode cX5_number 23 = .ok (.iload_n 2, 1) := dk_28 (dk_at dksX5_number_0 23 rfl rfl)
theorem dX5_number_24 : decode cX5_number 24 = .ok (.i2l, 1) := dk_133 (dk_at dksX5_number_1 0 rfl rfl)
theorem dX5_number_25 : decode cX5_number 25 = .ok (.invokestatic 46, 3) := dk_184 0 46 (dk_at dksX5_number_1 1 rfl rfl)
theorem dX5_number_28 : decode cX5_number 28 = .ok (.iconst 3, 1) := dk_6 (dk_at dksX5_number_1 4 rfl rfl)
theorem dX5_number_29 : decode cX5_number 29 = .ok (.invokevirtual 107, 3) := dk_182 0 107 (dk_at dksX5_number_1 5 rfl rfl)
theorem dX5_number_32 : decode cX5_number 32 = .ok (.aload_n 0, 1) := dk_42 (dk_at dksX5_number_1 8 rfl rfl)
theorem dX5_number_33 : decode cX5_number 33 = .ok (.getfield 30, 3) := dk_180 0 30 (dk_at dksX5_number_1 9 rfl rfl)
theorem dX5_number_36 : decode cX5_number 36 = .ok (.invokevirtual 111, 3) := dk_182 0 111 (dk_at dksX5_number_1 12 rfl rfl)
theorem dX5_number_39 : decode cX5_number 39 = .ok (.istore_n 3, 1) := dk_62 (dk_at dksX5_number_1 15 rfl rfl)
theorem dX5_number_40 : decode cX5_number 40 = .ok (.aload_n 0, 1) := dk_42 (dk_at dksX5_number_1 16 rfl rfl)
theorem dX5_number_41 : decode cX5_number 41 = .ok (.invokevirtual 100, 3) := dk_182 0 100 (dk_at dksX5_number_1 17 rfl rfl)
theorem dX5_number_44 : decode cX5_number 44 = .ok (.iload_n 3, 1) := dk_29 (dk_at dksX5_number_1 20 rfl rfl)
theorem dX5_number_45 : decode cX5_number 45 = .ok (.ireturn, 1) := dk_172 (dk_at dksX5_number_1 21 rfl rfl)
abbrev cX5_mass : ByteArray := prog_12_method_12_code
def yX5_mass : MethodName := ⟨RX5, "mass", "()V"⟩
def dkwX5_mass_3 : List UInt8 := [79, 42, 180, 0, 18, 89, 180, 0, 147, 4, 96, 181, 0, 147, 177]
abbrev dktX5_mass_3 : List UInt8 := dkwX5_mass_3 ++ []
def dkwX5_mass_2 : List UInt8 := [100, 184, 0, 189, 182, 0, 157, 100, 61, 42, 180, 0, 18, 180, 0, 194, 42, 180, 0, 18, 180, 0, 147, 28]
abbrev dktX5_mass_2 : List UInt8 := dkwX5_mass_2 ++ dktX5_mass_3
def dkwX5_mass_1 : List UInt8 := [182, 0, 157, 96, 61, 167, 0, 28, 42, 18, 187, 182, 0, 165, 153, 0, 19, 28, 42, 3, 16, 99, 27, 4]
abbrev dktX5_mass_1 : List UInt8 := dkwX5_mass_1 ++ dktX5_mass_2
def dkwX5_mass_0 : List UInt8 := [42, 4, 18, 181, 182, 0, 157, 60, 27, 61, 42, 18, 185, 182, 0, 165, 153, 0, 16, 28, 42, 3, 16, 99]
abbrev dktX5_mass_0 : List UInt8 := dkwX5_mass_0 ++ dktX5_mass_1
theorem dksX5_mass_0 : cX5_mass.data.toList.drop 0 = dktX5_mass_0 := by decide +kernel
theorem dksX5_mass_1 : cX5_mass.data.toList.drop 24 = dktX5_mass_1 := dk_seg dksX5_mass_0 24 rfl rfl
theorem dksX5_mass_2 : cX5_mass.data.toList.drop 48 = dktX5_mass_2 := dk_seg dksX5_mass_1 24 rfl rfl
theorem dksX5_mass_3 : cX5_mass.data.toList.drop 72 = dktX5_mass_3 := dk_seg dksX5_mass_2 24 rfl rfl
theorem dX5_mass_0 : decode cX5_mass 0 = .ok (.aload_n 0, 1) := dk_42 (dk_at dksX5_mass_0 0 rfl rfl)
theorem dX5_mass_1 : decode cX5_mass 1 = .ok (.iconst 1, 1) := dk_4 (dk_at dksX5_mass_0 1 rfl rfl)
theorem dX5_mass_2 : decode cX5_mass 2 = .ok (.ldc 181, 2) := dk_18 181 (dk_at dksX5_mass_0 2 rfl rfl)
theorem dX5_mass_4 : decode cX5_mass 4 = .ok (.invokevirtual 157, 3) := dk_182 0 157 (dk_at dksX5_mass_0 4 rfl rfl)
theorem dX5_mass_7 : decode cX5_mass 7 = .ok (.istore_n 1, 1) := dk_60 (dk_at dksX5_mass_0 7 rfl rfl)
theorem dX5_mass_8 : decode cX5_mass 8 = .ok (.iload_n 1, 1) := dk_27 (dk_at dksX5_mass_0 8 rfl rfl)
theorem dX5_mass_9 : decode cX5_mass 9 = .ok (.istore_n 2, 1) := dk_61 (dk_at dksX5_mass_0 9 rfl rfl)
theorem dX5_mass_10 : decode cX5_mass 10 = .ok (.aload_n 0, 1) := dk_42 (dk_at dksX5_mass_0 10 rfl rfl)
theorem dX5_mass_11 : decode cX5_mass 11 = .ok (.ldc 185, 2) := dk_18 185 (dk_at dksX5_mass_0 11 rfl rfl)
theorem dX5_mass_13 : decode cX5_mass 13 = .ok (.invokevirtual 165, 3) := dk_182 0 165 (dk_at dksX5_mass_0 13 rfl rfl)
theorem dX5_mass_16 : decode cX5_mass 16 = .ok (.ifCond .eq 16, 3) := dk_153 0 16 (dk_at dksX5_mass_0 16 rfl rfl)
theorem dX5_mass_19 : decode cX5_mass 19 = .ok (.iload_n 2, 1) := dk_28 (dk_at dksX5_mass_0 19 rfl rfl)
theorem dX5_mass_20 : decode cX5_mass 20 = .ok (.aload_n 0, 1) := dk_42 (dk_at dksX5_mass_0 20 rfl rfl)
theorem dX5_mass_21 : decode cX5_mass 21 = .ok (.iconst 0, 1) := dk_3 (dk_at dksX5_mass_0 21 rfl rfl)
theorem dX5_mass_22 : decode cX5_mass 22 = .ok (.bipush 99, 2) := dk_16 99 (dk_at dksX5_mass_0 22 rfl rfl)
theorem dX5_mass_24 : decode cX5_mass 24 = .ok (.invokevirtual 157, 3) := dk_182 0 157 (dk_at dksX5_mass_1 0 rfl rfl)
theorem dX5_mass_27 : decode cX5_mass 27 = .ok (.iadd, 1) := dk_96 (dk_at dksX5_mass_1 3 rfl rfl)
theorem dX5_mass_28 : decode cX5_mass 28 = .ok (.istore_n 2, 1) := dk_61 (dk_at dksX5_mass_1 4 rfl rfl)
theorem dX5_mass_29 : decode cX5_mass 29 = .ok (.goto 28, 3) := dk_167 0 28 (dk_at dksX5_mass_1 5 rfl rfl)
theorem dX5_mass_32 : decode cX5_mass 32 = .ok (.aload_n 0, 1) := dk_42 (dk_at dksX5_mass_1 8 rfl rfl)
theorem dX5_mass_33 : decode cX5_mass 33 = .ok (.ldc 187, 2) := dk_18 187 (dk_at dksX5_mass_1 9 rfl rfl)
theorem dX5_mass_35 : decode cX5_mass 35 = .ok (.invokevirtual 165, 3) := dk_182 0 165 (dk_at dksX5_mass_1 11 rfl rfl)
theorem dX5_mass_38 : decode cX5_mass 38 = .ok (.ifCond .eq 19, 3) := dk_153 0 19 (dk_at dksX5_mass_1 14 rfl rfl)
theorem dX5_mass_41 : decode cX5_mass 41 = .ok (.iload_n 2, 1) := dk_28 (dk_at dksX5_mass_1 17 rfl rfl)
theorem dX5_mass_42 : decode cX5_mass 42 = .ok (.aload_n 0, 1) := dk_42 (dk_at dksX5_mass_1 18 rfl rfl)
theorem dX5_mass_43 : decode cX5_mass 43 = .ok (.iconst 0, 1) := dk_3 (dk_at dksX5_mass_1 19 rfl rfl)
theorem dX5_mass_44 : decode cX5_mass 44 = .ok (.bipush 99, 2) := dk_16 99 (dk_at dksX5_mass_1 20 rfl rfl)
theorem dX5_mass_46 : decode cX5_mass 46 = .ok (.iload_n 1, 1) := dk_27 (dk_at dksX5_mass_1 22 rfl rfl)
theorem dX5_mass_47 : decode cX5_mass 47 = .ok (.iconst 1, 1) := dk_4 (dk_at dksX5_mass_1 23 rfl rfl)
theorem dX5_mass_48 : decode cX5_mass 48 = .ok (.isub, 1) := dk_100 (dk_at dksX5_mass_2 0 rfl rfl)
theorem dX5_mass_49 : decode cX5_mass 49 = .ok (.invokestatic 189, 3) := dk_184 0 189 (dk_at dksX5_mass_2 1 rfl rfl)
theorem dX5_mass_52 : decode cX5_mass 52 = .ok (.invokevirtual 157, 3) := dk_182 0 157 (dk_at dksX5_mass_2 4 rfl rfl)
theorem dX5_mass_55 : decode cX5_mass 55 = .ok (.isub, 1) := dk_100 (dk_at dksX5_mass_2 7 rfl rfl)
theorem dX5_mass_56 : decode cX5_mass 56 = .ok (.istore_n 2, 1) := dk_61 (dk_at dksX5_mass_2 8 rfl rfl)
theorem dX5_mass_57 : decode cX5_mass 57 = .ok (.aload_n 0, 1) := dk_42 (dk_at dksX5_mass_2 9 rfl rfl)
theorem dX5_mass_58 : decode cX5_mass 58 = .ok (.getfield 18, 3) := dk_180 0 18 (dk_at dksX5_mass_2 10 rfl rfl)
theorem dX5_mass_61 : decode cX5_mass 61 = .ok (.getfield 194, 3) := dk_180 0 194 (dk_at dksX5_mass_2 13 rfl rfl)
theorem dX5_mass_64 : decode cX5_mass 64 = .ok (.aload_n 0, 1) := dk_42 (dk_at dksX5_mass_2 16 rfl rfl)
theorem dX5_mass_65 : decode cX5_mass 65 = .ok (.getfield 18, 3) := dk_180 0 18 (dk_at dksX5_mass_2 17 rfl rfl)
theorem dX5_mass_68 : decode cX5_mass 68 = .ok (.getfield 147, 3) := dk_180 0 147 (dk_at dksX5_mass_2 20 rfl rfl)
theorem dX5_mass_71 : decode cX5_mass 71 = .ok (.iload_n 2, 1) := dk_28 (dk_at dksX5_mass_2 23 rfl rfl)
theorem dX5_mass_72 : decode cX5_mass 72 = .ok (.iastore, 1) := dk_79 (dk_at dksX5_mass_3 0 rfl rfl)
theorem dX5_mass_73 : decode cX5_mass 73 = .ok (.aload_n 0, 1) := dk_42 (dk_at dksX5_mass_3 1 rfl rfl)
theorem dX5_mass_74 : decode cX5_mass 74 = .ok (.getfield 18, 3) := dk_180 0 18 (dk_at dksX5_mass_3 2 rfl rfl)
theorem dX5_mass_77 : decode cX5_mass 77 = .ok (.dup, 1) := dk_89 (dk_at dksX5_mass_3 5 rfl rfl)
theorem dX5_mass_78 : decode cX5_mass 78 = .ok (.getfield 147, 3) := dk_180 0 147 (dk_at dksX5_mass_3 6 rfl rfl)
theorem dX5_mass_81 : decode cX5_mass 81 = .ok (.iconst 1, 1) := dk_4 (dk_at dksX5_mass_3 9 rfl rfl)
theorem dX5_mass_82 : decode cX5_mass 82 = .ok (.iadd, 1) := dk_96 (dk_at dksX5_mass_3 10 rfl rfl)
theorem dX5_mass_83 : decode cX5_mass 83 = .ok (.putfield 147, 3) := dk_181 0 147 (dk_at dksX5_mass_3 11 rfl rfl)
theorem dX5_mass_86 : decode cX5_mass 86 = .ok (.return_, 1) := dk_177 (dk_at dksX5_mass_3 14 rfl rfl)
abbrev cX5_takes : ByteArray := prog_12_method_6_code
def yX5_takes : MethodName := ⟨RX5, "takes", "(Ljava/lang/String;)Z"⟩
def dkwX5_takes_0 : List UInt8 := [42, 180, 0, 30, 43, 182, 0, 96, 61, 28, 153, 0, 7, 42, 182, 0, 100, 28, 172]
abbrev dktX5_takes_0 : List UInt8 := dkwX5_takes_0 ++ []
theorem dksX5_takes_0 : cX5_takes.data.toList.drop 0 = dktX5_takes_0 := by decide +kernel
theorem dX5_takes_0 : decode cX5_takes 0 = .ok (.aload_n 0, 1) := dk_42 (dk_at dksX5_takes_0 0 rfl rfl)
theorem dX5_takes_1 : decode cX5_takes 1 = .ok (.getfield 30, 3) := dk_180 0 30 (dk_at dksX5_takes_0 1 rfl rfl)
theorem dX5_takes_4 : decode cX5_takes 4 = .ok (.aload_n 1, 1) := dk_43 (dk_at dksX5_takes_0 4 rfl rfl)
theorem dX5_takes_5 : decode cX5_takes 5 = .ok (.invokevirtual 96, 3) := dk_182 0 96 (dk_at dksX5_takes_0 5 rfl rfl)
theorem dX5_takes_8 : decode cX5_takes 8 = .ok (.istore_n 2, 1) := dk_61 (dk_at dksX5_takes_0 8 rfl rfl)
theorem dX5_takes_9 : decode cX5_takes 9 = .ok (.iload_n 2, 1) := dk_28 (dk_at dksX5_takes_0 9 rfl rfl)
theorem dX5_takes_10 : decode cX5_takes 10 = .ok (.ifCond .eq 7, 3) := dk_153 0 7 (dk_at dksX5_takes_0 10 rfl rfl)
theorem dX5_takes_13 : decode cX5_takes 13 = .ok (.aload_n 0, 1) := dk_42 (dk_at dksX5_takes_0 13 rfl rfl)
theorem dX5_takes_14 : decode cX5_takes 14 = .ok (.invokevirtual 100, 3) := dk_182 0 100 (dk_at dksX5_takes_0 14 rfl rfl)
theorem dX5_takes_17 : decode cX5_takes 17 = .ok (.iload_n 2, 1) := dk_28 (dk_at dksX5_takes_0 17 rfl rfl)
theorem dX5_takes_18 : decode cX5_takes 18 = .ok (.ireturn, 1) := dk_172 (dk_at dksX5_takes_0 18 rfl rfl)
abbrev cX5_term : ByteArray := prog_12_method_13_code
def yX5_term : MethodName := ⟨RX5, "term", "()V"⟩
def dkwX5_term_3 : List UInt8 := [180, 0, 18, 180, 0, 205, 27, 42, 4, 8, 182, 0, 157, 79, 177]
abbrev dktX5_term_3 : List UInt8 := dkwX5_term_3 ++ []
def dkwX5_term_2 : List UInt8 := [182, 0, 107, 42, 3, 5, 182, 0, 157, 60, 42, 89, 180, 0, 198, 4, 27, 120, 128, 181, 0, 198, 42]
abbrev dktX5_term_2 : List UInt8 := dkwX5_term_2 ++ dktX5_term_3
def dkwX5_term_1 : List UInt8 := [180, 0, 198, 42, 180, 0, 30, 182, 0, 111, 184, 0, 201, 154, 0, 7, 4, 167, 0, 4, 3, 5]
abbrev dktX5_term_1 : List UInt8 := dkwX5_term_1 ++ dktX5_term_2
def dkwX5_term_0 : List UInt8 := [42, 42, 180, 0, 30, 182, 0, 103, 153, 0, 31, 42, 180, 0, 30, 182, 0, 111, 6, 162, 0, 20, 42]
abbrev dktX5_term_0 : List UInt8 := dkwX5_term_0 ++ dktX5_term_1
theorem dksX5_term_0 : cX5_term.data.toList.drop 0 = dktX5_term_0 := by decide +kernel
theorem dksX5_term_1 : cX5_term.data.toList.drop 23 = dktX5_term_1 := dk_seg dksX5_term_0 23 rfl rfl
theorem dksX5_term_2 : cX5_term.data.toList.drop 45 = dktX5_term_2 := dk_seg dksX5_term_1 22 rfl rfl
theorem dksX5_term_3 : cX5_term.data.toList.drop 68 = dktX5_term_3 := dk_seg dksX5_term_2 23 rfl rfl
theorem dX5_term_0 : decode cX5_term 0 = .ok (.aload_n 0, 1) := dk_42 (dk_at dksX5_term_0 0 rfl rfl)
theorem dX5_term_1 : decode cX5_term 1 = .ok (.aload_n 0, 1) := dk_42 (dk_at dksX5_term_0 1 rfl rfl)
theorem dX5_term_2 : decode cX5_term 2 = .ok (.getfield 30, 3) := dk_180 0 30 (dk_at dksX5_term_0 2 rfl rfl)
theorem dX5_term_5 : decode cX5_term 5 = .ok (.invokevirtual 103, 3) := dk_182 0 103 (dk_at dksX5_term_0 5 rfl rfl)
theorem dX5_term_8 : decode cX5_term 8 = .ok (.ifCond .eq 31, 3) := dk_153 0 31 (dk_at dksX5_term_0 8 rfl rfl)
theorem dX5_term_11 : decode cX5_term 11 = .ok (.aload_n 0, 1) := dk_42 (dk_at dksX5_term_0 11 rfl rfl)
theorem dX5_term_12 : decode cX5_term 12 = .ok (.getfield 30, 3) := dk_180 0 30 (dk_at dksX5_term_0 12 rfl rfl)
theorem dX5_term_15 : decode cX5_term 15 = .ok (.invokevirtual 111, 3) := dk_182 0 111 (dk_at dksX5_term_0 15 rfl rfl)
theorem dX5_term_18 : decode cX5_term 18 = .ok (.iconst 3, 1) := dk_6 (dk_at dksX5_term_0 18 rfl rfl)
theorem dX5_term_19 : decode cX5_term 19 = .ok (.if_icmp .ge 20, 3) := dk_162 0 20 (dk_at dksX5_term_0 19 rfl rfl)
theorem dX5_term_22 : decode cX5_term 22 = .ok (.aload_n 0, 1) := dk_42 (dk_at dksX5_term_0 22 rfl rfl)
theorem dX5_term_23 : decode cX5_term 23 = .ok (.getfield 198, 3) := dk_180 0 198 (dk_at dksX5_term_1 0 rfl rfl)
theorem dX5_term_26 : decode cX5_term 26 = .ok (.aload_n 0, 1) := dk_42 (dk_at dksX5_term_1 3 rfl rfl)
theorem dX5_term_27 : decode cX5_term 27 = .ok (.getfield 30, 3) := dk_180 0 30 (dk_at dksX5_term_1 4 rfl rfl)
theorem dX5_term_30 : decode cX5_term 30 = .ok (.invokevirtual 111, 3) := dk_182 0 111 (dk_at dksX5_term_1 7 rfl rfl)
theorem dX5_term_33 : decode cX5_term 33 = .ok (.invokestatic 201, 3) := dk_184 0 201 (dk_at dksX5_term_1 10 rfl rfl)
theorem dX5_term_36 : decode cX5_term 36 = .ok (.ifCond .ne 7, 3) := dk_154 0 7 (dk_at dksX5_term_1 13 rfl rfl)
theorem dX5_term_39 : decode cX5_term 39 = .ok (.iconst 1, 1) := dk_4 (dk_at dksX5_term_1 16 rfl rfl)
theorem dX5_term_40 : decode cX5_term 40 = .ok (.goto 4, 3) := dk_167 0 4 (dk_at dksX5_term_1 17 rfl rfl)
theorem dX5_term_43 : decode cX5_term 43 = .ok (.iconst 0, 1) := dk_3 (dk_at dksX5_term_1 20 rfl rfl)
theorem dX5_term_44 : decode cX5_term 44 = .ok (.iconst 2, 1) := dk_5 (dk_at dksX5_term_1 21 rfl rfl)
theorem dX5_term_45 : decode cX5_term 45 = .ok (.invokevirtual 107, 3) := dk_182 0 107 (dk_at dksX5_term_2 0 rfl rfl)
theorem dX5_term_48 : decode cX5_term 48 = .ok (.aload_n 0, 1) := dk_42 (dk_at dksX5_term_2 3 rfl rfl)
theorem dX5_term_49 : decode cX5_term 49 = .ok (.iconst 0, 1) := dk_3 (dk_at dksX5_term_2 4 rfl rfl)
theorem dX5_term_50 : decode cX5_term 50 = .ok (.iconst 2, 1) := dk_5 (dk_at dksX5_term_2 5 rfl rfl)
theorem dX5_term_51 : decode cX5_term 51 = .ok (.invokevirtual 157, 3) := dk_182 0 157 (dk_at dksX5_term_2 6 rfl rfl)
theorem dX5_term_54 : decode cX5_term 54 = .ok (.istore_n 1, 1) := dk_60 (dk_at dksX5_term_2 9 rfl rfl)
theorem dX5_term_55 : decode cX5_term 55 = .ok (.aload_n 0, 1) := dk_42 (dk_at dksX5_term_2 10 rfl rfl)
theorem dX5_term_56 : decode cX5_term 56 = .ok (.dup, 1) := dk_89 (dk_at dksX5_term_2 11 rfl rfl)
theorem dX5_term_57 : decode cX5_term 57 = .ok (.getfield 198, 3) := dk_180 0 198 (dk_at dksX5_term_2 12 rfl rfl)
theorem dX5_term_60 : decode cX5_term 60 = .ok (.iconst 1, 1) := dk_4 (dk_at dksX5_term_2 15 rfl rfl)
theorem dX5_term_61 : decode cX5_term 61 = .ok (.iload_n 1, 1) := dk_27 (dk_at dksX5_term_2 16 rfl rfl)
theorem dX5_term_62 : decode cX5_term 62 = .ok (.ishl, 1) := dk_120 (dk_at dksX5_term_2 17 rfl rfl)
theorem dX5_term_63 : decode cX5_term 63 = .ok (.ior, 1) := dk_128 (dk_at dksX5_term_2 18 rfl rfl)
theorem dX5_term_64 : decode cX5_term 64 = .ok (.putfield 198, 3) := dk_181 0 198 (dk_at dksX5_term_2 19 rfl rfl)
theorem dX5_term_67 : decode cX5_term 67 = .ok (.aload_n 0, 1) := dk_42 (dk_at dksX5_term_2 22 rfl rfl)
theorem dX5_term_68 : decode cX5_term 68 = .ok (.getfield 18, 3) := dk_180 0 18 (dk_at dksX5_term_3 0 rfl rfl)
theorem dX5_term_71 : decode cX5_term 71 = .ok (.getfield 205, 3) := dk_180 0 205 (dk_at dksX5_term_3 3 rfl rfl)
theorem dX5_term_74 : decode cX5_term 74 = .ok (.iload_n 1, 1) := dk_27 (dk_at dksX5_term_3 6 rfl rfl)
theorem dX5_term_75 : decode cX5_term 75 = .ok (.aload_n 0, 1) := dk_42 (dk_at dksX5_term_3 7 rfl rfl)
theorem dX5_term_76 : decode cX5_term 76 = .ok (.iconst 1, 1) := dk_4 (dk_at dksX5_term_3 8 rfl rfl)
theorem dX5_term_77 : decode cX5_term 77 = .ok (.iconst 5, 1) := dk_8 (dk_at dksX5_term_3 9 rfl rfl)
theorem dX5_term_78 : decode cX5_term 78 = .ok (.invokevirtual 157, 3) := dk_182 0 157 (dk_at dksX5_term_3 10 rfl rfl)
theorem dX5_term_81 : decode cX5_term 81 = .ok (.iastore, 1) := dk_79 (dk_at dksX5_term_3 13 rfl rfl)
theorem dX5_term_82 : decode cX5_term 82 = .ok (.return_, 1) := dk_177 (dk_at dksX5_term_3 14 rfl rfl)
theorem q108 : (Jvm.Cond.initialized "ScaleInspection$Parser") ∈ lw_all := lw_g (lw_at lw_m1 23 rfl) rfl
theorem q484 : (Jvm.Cond.fieldLinkNest "ScaleInspection$Parser" (134 : Nat) "ScaleInspection$Market" "scales" "Ljava/util/ArrayList;" "ScaleInspection") ∈ lw_tbl := lw_at lw_m2 159 rfl
theorem q487 : (Jvm.Cond.fieldLinkNest "ScaleInspection$Parser" (154 : Nat) "ScaleInspection$Market" "sets" "Ljava/util/ArrayList;" "ScaleInspection") ∈ lw_tbl := lw_at lw_m2 162 rfl
theorem q489 : (Jvm.Cond.fieldLinkNest "ScaleInspection$Parser" (194 : Nat) "ScaleInspection$Market" "masses" "[I" "ScaleInspection") ∈ lw_tbl := lw_at lw_m2 164 rfl
theorem q492 : (Jvm.Cond.fieldLinkNest "ScaleInspection$Parser" (205 : Nat) "ScaleInspection$Market" "terms" "[I" "ScaleInspection") ∈ lw_tbl := lw_at lw_m2 167 rfl
theorem q495 : (Jvm.Cond.fieldLinkNest "ScaleInspection$Parser" (125 : Nat) "ScaleInspection$Market" "traders" "I" "ScaleInspection") ∈ lw_tbl := lw_at lw_m2 170 rfl
theorem q497 : (Jvm.Cond.fieldLinkNest "ScaleInspection$Parser" (147 : Nat) "ScaleInspection$Market" "massCount" "I" "ScaleInspection") ∈ lw_tbl := lw_at lw_m2 172 rfl
theorem q535 : (Jvm.Cond.fieldLinkNest "ScaleInspection$Parser" (34 : Nat) "ScaleInspection" "buffer" "[B" "ScaleInspection") ∈ lw_tbl := lw_at lw_m2 210 rfl
theorem q584 : (Jvm.Cond.instantiable "ScaleInspection$Parser" (5 : Nat)) ∈ lw_all := lw_g (lw_at lw_m3 19 rfl) rfl
theorem q586 : (Jvm.Cond.instanceMethod ({ cls := "ScaleInspection$Parser", name := "<init>", desc := "(LScaleInspection;I)V" } : Jvm.MethodName)) ∈ lw_all := lw_g (lw_at lw_m3 21 rfl) rfl
theorem q587 : (Jvm.Cond.code ({ cls := "ScaleInspection$Parser", name := "<init>", desc := "(LScaleInspection;I)V" } : Jvm.MethodName) prog_12_method_1_code (3 : Nat) (Option.none : Option Jvm.ClassFile.FieldType)) ∈ lw_all := lw_g (lw_at lw_m3 22 rfl) rfl
theorem q588 : (Jvm.Cond.methodLink "ScaleInspection$Parser" (9 : Nat) ({ cls := "java/lang/Object", name := "<init>", desc := "()V" } : Jvm.MethodName)) ∈ lw_all := lw_g (lw_at lw_m3 23 rfl) rfl
theorem q589 : (Jvm.Cond.classLink "ScaleInspection$Parser" (15 : Nat) "ScaleInspection$Market") ∈ lw_all := lw_g (lw_at lw_m3 24 rfl) rfl
theorem q590 : (Jvm.Cond.methodLinkNest "ScaleInspection$Parser" (17 : Nat) ({ cls := "ScaleInspection$Market", name := "<init>", desc := "()V" } : Jvm.MethodName) "ScaleInspection") ∈ lw_tbl := lw_at lw_m3 25 rfl
theorem q591 : (Jvm.Cond.methodLink "ScaleInspection$Parser" (26 : Nat) ({ cls := "ScaleInspection$Parser", name := "tokenAt", desc := "(I)LScaleInspection$Token;" } : Jvm.MethodName)) ∈ lw_all := lw_g (lw_at lw_m3 26 rfl) rfl
theorem q592 : (Jvm.Cond.privateMethod ({ cls := "ScaleInspection$Parser", name := "tokenAt", desc := "(I)LScaleInspection$Token;" } : Jvm.MethodName)) ∈ lw_tbl := lw_at lw_m3 27 rfl
theorem q593 : (Jvm.Cond.instanceMethod ({ cls := "ScaleInspection$Parser", name := "tokenAt", desc := "(I)LScaleInspection$Token;" } : Jvm.MethodName)) ∈ lw_all := lw_g (lw_at lw_m3 28 rfl) rfl
theorem q594 : (Jvm.Cond.code ({ cls := "ScaleInspection$Parser", name := "tokenAt", desc := "(I)LScaleInspection$Token;" } : Jvm.MethodName) prog_12_method_3_code (6 : Nat) (Option.some (Jvm.ClassFile.FieldType.object "ScaleInspection$Token"))) ∈ lw_all := lw_g (lw_at lw_m3 29 rfl) rfl
theorem q595 : (Jvm.Cond.methodLink "ScaleInspection$Parser" (38 : Nat) ({ cls := "ScaleInspection$Parser", name := "byteAt", desc := "(I)I" } : Jvm.MethodName)) ∈ lw_all := lw_g (lw_at lw_m3 30 rfl) rfl
theorem q596 : (Jvm.Cond.privateMethod ({ cls := "ScaleInspection$Parser", name := "byteAt", desc := "(I)I" } : Jvm.MethodName)) ∈ lw_tbl := lw_at lw_m3 31 rfl
theorem q597 : (Jvm.Cond.instanceMethod ({ cls := "ScaleInspection$Parser", name := "byteAt", desc := "(I)I" } : Jvm.MethodName)) ∈ lw_all := lw_g (lw_at lw_m3 32 rfl) rfl
theorem q598 : (Jvm.Cond.code ({ cls := "ScaleInspection$Parser", name := "byteAt", desc := "(I)I" } : Jvm.MethodName) prog_12_method_2_code (2 : Nat) (Option.some Jvm.ClassFile.FieldType.int)) ∈ lw_all := lw_g (lw_at lw_m3 33 rfl) rfl
theorem q599 : (Jvm.Cond.constantLong "ScaleInspection$Parser" (42 : Nat) (97 : Int64)) ∈ lw_all := lw_g (lw_at lw_m3 34 rfl) rfl
theorem q600 : (Jvm.Cond.constantLong "ScaleInspection$Parser" (44 : Nat) (122 : Int64)) ∈ lw_all := lw_g (lw_at lw_m3 35 rfl) rfl
theorem q601 : (Jvm.Cond.methodLinkNest "ScaleInspection$Parser" (46 : Nat) ({ cls := "ScaleInspection", name := "inRange", desc := "(JJJ)Z" } : Jvm.MethodName) "ScaleInspection") ∈ lw_tbl := lw_at lw_m3 36 rfl
theorem q602 : (Jvm.Cond.classLink "ScaleInspection$Parser" (50 : Nat) "java/lang/StringBuilder") ∈ lw_all := lw_g (lw_at lw_m3 37 rfl) rfl
theorem q603 : (Jvm.Cond.methodLink "ScaleInspection$Parser" (52 : Nat) ({ cls := "java/lang/StringBuilder", name := "<init>", desc := "(I)V" } : Jvm.MethodName)) ∈ lw_all := lw_g (lw_at lw_m3 38 rfl) rfl
theorem q606 : (Jvm.Cond.methodLink "ScaleInspection$Parser" (55 : Nat) ({ cls := "java/lang/StringBuilder", name := "length", desc := "()I" } : Jvm.MethodName)) ∈ lw_all := lw_g (lw_at lw_m3 41 rfl) rfl
theorem q607 : (Jvm.Cond.methodLink "ScaleInspection$Parser" (58 : Nat) ({ cls := "java/lang/StringBuilder", name := "append", desc := "(C)Ljava/lang/StringBuilder;" } : Jvm.MethodName)) ∈ lw_all := lw_g (lw_at lw_m3 42 rfl) rfl
theorem q629 : (Jvm.Cond.classLink "ScaleInspection$Parser" (62 : Nat) "ScaleInspection$Sign") ∈ lw_all := lw_g (lw_at lw_m3 64 rfl) rfl
theorem q631 : (Jvm.Cond.methodLink "ScaleInspection$Parser" (64 : Nat) ({ cls := "ScaleInspection$Sign", name := "<init>", desc := "(III)V" } : Jvm.MethodName)) ∈ lw_all := lw_g (lw_at lw_m3 66 rfl) rfl
theorem q640 : (Jvm.Cond.fieldLinkNest "ScaleInspection$Parser" (90 : Nat) "ScaleInspection$Token" "position" "I" "ScaleInspection") ∈ lw_tbl := lw_at lw_m3 75 rfl
theorem q642 : (Jvm.Cond.fieldLinkNest "ScaleInspection$Parser" (83 : Nat) "ScaleInspection$Token" "next" "I" "ScaleInspection") ∈ lw_tbl := lw_at lw_m3 77 rfl
theorem q650 : (Jvm.Cond.classLink "ScaleInspection$Parser" (67 : Nat) "ScaleInspection$Word") ∈ lw_all := lw_g (lw_at lw_m3 85 rfl) rfl
theorem q652 : (Jvm.Cond.methodLink "ScaleInspection$Parser" (69 : Nat) ({ cls := "java/lang/StringBuilder", name := "toString", desc := "()Ljava/lang/String;" } : Jvm.MethodName)) ∈ lw_all := lw_g (lw_at lw_m3 87 rfl) rfl
theorem q653 : (Jvm.Cond.methodLink "ScaleInspection$Parser" (73 : Nat) ({ cls := "ScaleInspection$Word", name := "<init>", desc := "(IILjava/lang/String;)V" } : Jvm.MethodName)) ∈ lw_all := lw_g (lw_at lw_m3 88 rfl) rfl
theorem q663 : (Jvm.Cond.constantLong "ScaleInspection$Parser" (76 : Nat) (48 : Int64)) ∈ lw_all := lw_g (lw_at lw_m3 98 rfl) rfl
theorem q664 : (Jvm.Cond.constantLong "ScaleInspection$Parser" (78 : Nat) (57 : Int64)) ∈ lw_all := lw_g (lw_at lw_m3 99 rfl) rfl
theorem q665 : (Jvm.Cond.classLink "ScaleInspection$Parser" (80 : Nat) "ScaleInspection$Amount") ∈ lw_all := lw_g (lw_at lw_m3 100 rfl) rfl
theorem q667 : (Jvm.Cond.methodLink "ScaleInspection$Parser" (82 : Nat) ({ cls := "ScaleInspection$Amount", name := "<init>", desc := "(III)V" } : Jvm.MethodName)) ∈ lw_all := lw_g (lw_at lw_m3 102 rfl) rfl
theorem q677 : (Jvm.Cond.fieldLink "ScaleInspection$Parser" (22 : Nat) "ScaleInspection$Parser" "length" "I") ∈ lw_all := lw_g (lw_at lw_m3 112 rfl) rfl
theorem q678 : (Jvm.Cond.fieldLink "ScaleInspection$Parser" (18 : Nat) "ScaleInspection$Parser" "market" "LScaleInspection$Market;") ∈ lw_all := lw_g (lw_at lw_m3 113 rfl) rfl
theorem q679 : (Jvm.Cond.fieldLink "ScaleInspection$Parser" (198 : Nat) "ScaleInspection$Parser" "knownTerms" "I") ∈ lw_all := lw_g (lw_at lw_m3 114 rfl) rfl
theorem q680 : (Jvm.Cond.fieldLink "ScaleInspection$Parser" (30 : Nat) "ScaleInspection$Parser" "token" "LScaleInspection$Token;") ∈ lw_all := lw_g (lw_at lw_m3 115 rfl) rfl
theorem q681 : (Jvm.Cond.fieldLink "ScaleInspection$Parser" (3 : Nat) "ScaleInspection$Parser" "this$0" "LScaleInspection;") ∈ lw_all := lw_g (lw_at lw_m3 116 rfl) rfl
theorem q682 : (Jvm.Cond.laysFinal "ScaleInspection$Parser" "ScaleInspection$Parser" "length" "I") ∈ lw_all := lw_g (lw_at lw_m3 117 rfl) rfl
theorem q683 : (Jvm.Cond.soleField "ScaleInspection$Parser" "length") ∈ lw_all := lw_g (lw_at lw_m3 118 rfl) rfl
theorem q684 : (Jvm.Cond.laysFinal "ScaleInspection$Parser" "ScaleInspection$Parser" "market" "LScaleInspection$Market;") ∈ lw_all := lw_g (lw_at lw_m3 119 rfl) rfl
theorem q685 : (Jvm.Cond.soleField "ScaleInspection$Parser" "market") ∈ lw_all := lw_g (lw_at lw_m3 120 rfl) rfl
theorem q686 : (Jvm.Cond.lays "ScaleInspection$Parser" "ScaleInspection$Parser" "knownTerms" "I") ∈ lw_all := lw_g (lw_at lw_m3 121 rfl) rfl
theorem q687 : (Jvm.Cond.soleField "ScaleInspection$Parser" "knownTerms") ∈ lw_all := lw_g (lw_at lw_m3 122 rfl) rfl
theorem q688 : (Jvm.Cond.lays "ScaleInspection$Parser" "ScaleInspection$Parser" "token" "LScaleInspection$Token;") ∈ lw_all := lw_g (lw_at lw_m3 123 rfl) rfl
theorem q689 : (Jvm.Cond.soleField "ScaleInspection$Parser" "token") ∈ lw_all := lw_g (lw_at lw_m3 124 rfl) rfl
theorem q690 : (Jvm.Cond.laysFinal "ScaleInspection$Parser" "ScaleInspection$Parser" "this$0" "LScaleInspection;") ∈ lw_all := lw_g (lw_at lw_m3 125 rfl) rfl
theorem q691 : (Jvm.Cond.soleField "ScaleInspection$Parser" "this$0") ∈ lw_all := lw_g (lw_at lw_m3 126 rfl) rfl
theorem q692 : (Jvm.Cond.superclass "ScaleInspection$Parser" "java/lang/Object") ∈ lw_all := lw_g (lw_at lw_m3 127 rfl) rfl
theorem q694 : (Jvm.Cond.instanceMethod ({ cls := "ScaleInspection$Parser", name := "parse", desc := "()LScaleInspection$Market;" } : Jvm.MethodName)) ∈ lw_all := lw_g (lw_at lw_m3 129 rfl) rfl
theorem q695 : (Jvm.Cond.selects "ScaleInspection$Parser" ({ cls := "ScaleInspection$Parser", name := "parse", desc := "()LScaleInspection$Market;" } : Jvm.MethodName) ({ cls := "ScaleInspection$Parser", name := "parse", desc := "()LScaleInspection$Market;" } : Jvm.MethodName)) ∈ lw_all := lw_g (lw_at lw_m3 130 rfl) rfl
theorem q696 : (Jvm.Cond.code ({ cls := "ScaleInspection$Parser", name := "parse", desc := "()LScaleInspection$Market;" } : Jvm.MethodName) prog_12_method_8_code (1 : Nat) (Option.some (Jvm.ClassFile.FieldType.object "ScaleInspection$Market"))) ∈ lw_all := lw_g (lw_at lw_m3 131 rfl) rfl
theorem q697 : (Jvm.Cond.methodLink "ScaleInspection$Parser" (114 : Nat) ({ cls := "ScaleInspection$Token", name := "isEnd", desc := "()Z" } : Jvm.MethodName)) ∈ lw_all := lw_g (lw_at lw_m3 132 rfl) rfl
theorem q706 : (Jvm.Cond.methodLink "ScaleInspection$Parser" (117 : Nat) ({ cls := "ScaleInspection$Parser", name := "statement", desc := "()V" } : Jvm.MethodName)) ∈ lw_all := lw_g (lw_at lw_m3 141 rfl) rfl
theorem q707 : (Jvm.Cond.privateMethod ({ cls := "ScaleInspection$Parser", name := "statement", desc := "()V" } : Jvm.MethodName)) ∈ lw_tbl := lw_at lw_m3 142 rfl
theorem q708 : (Jvm.Cond.instanceMethod ({ cls := "ScaleInspection$Parser", name := "statement", desc := "()V" } : Jvm.MethodName)) ∈ lw_all := lw_g (lw_at lw_m3 143 rfl) rfl
theorem q709 : (Jvm.Cond.code ({ cls := "ScaleInspection$Parser", name := "statement", desc := "()V" } : Jvm.MethodName) prog_12_method_10_code (2 : Nat) (Option.none : Option Jvm.ClassFile.FieldType)) ∈ lw_all := lw_g (lw_at lw_m3 144 rfl) rfl
theorem q710 : (Jvm.Cond.stringRef "ScaleInspection$Parser" (123 : Nat) "trader") ∈ lw_tbl := lw_at lw_m3 145 rfl
theorem q711 : (Jvm.Cond.methodLink "ScaleInspection$Parser" (96 : Nat) ({ cls := "ScaleInspection$Token", name := "isWord", desc := "(Ljava/lang/String;)Z" } : Jvm.MethodName)) ∈ lw_all := lw_g (lw_at lw_m3 146 rfl) rfl
theorem q728 : (Jvm.Cond.methodLink "ScaleInspection$Parser" (128 : Nat) ({ cls := "ScaleInspection$Parser", name := "begin", desc := "(Z)V" } : Jvm.MethodName)) ∈ lw_all := lw_g (lw_at lw_m3 163 rfl) rfl
theorem q729 : (Jvm.Cond.privateMethod ({ cls := "ScaleInspection$Parser", name := "begin", desc := "(Z)V" } : Jvm.MethodName)) ∈ lw_tbl := lw_at lw_m3 164 rfl
theorem q730 : (Jvm.Cond.instanceMethod ({ cls := "ScaleInspection$Parser", name := "begin", desc := "(Z)V" } : Jvm.MethodName)) ∈ lw_all := lw_g (lw_at lw_m3 165 rfl) rfl
theorem q731 : (Jvm.Cond.code ({ cls := "ScaleInspection$Parser", name := "begin", desc := "(Z)V" } : Jvm.MethodName) prog_12_method_9_code (2 : Nat) (Option.none : Option Jvm.ClassFile.FieldType)) ∈ lw_all := lw_g (lw_at lw_m3 166 rfl) rfl
theorem q732 : (Jvm.Cond.methodLink "ScaleInspection$Parser" (107 : Nat) ({ cls := "ScaleInspection$Parser", name := "require", desc := "(ZI)V" } : Jvm.MethodName)) ∈ lw_all := lw_g (lw_at lw_m3 167 rfl) rfl
theorem q733 : (Jvm.Cond.privateMethod ({ cls := "ScaleInspection$Parser", name := "require", desc := "(ZI)V" } : Jvm.MethodName)) ∈ lw_tbl := lw_at lw_m3 168 rfl
theorem q734 : (Jvm.Cond.instanceMethod ({ cls := "ScaleInspection$Parser", name := "require", desc := "(ZI)V" } : Jvm.MethodName)) ∈ lw_all := lw_g (lw_at lw_m3 169 rfl) rfl
theorem q735 : (Jvm.Cond.code ({ cls := "ScaleInspection$Parser", name := "require", desc := "(ZI)V" } : Jvm.MethodName) prog_12_method_5_code (3 : Nat) (Option.none : Option Jvm.ClassFile.FieldType)) ∈ lw_all := lw_g (lw_at lw_m3 170 rfl) rfl
theorem q736 : (Jvm.Cond.classLink "ScaleInspection$Parser" (88 : Nat) "ScaleInspection$ParseException") ∈ lw_all := lw_g (lw_at lw_m3 171 rfl) rfl
theorem q745 : (Jvm.Cond.methodLink "ScaleInspection$Parser" (93 : Nat) ({ cls := "ScaleInspection$ParseException", name := "<init>", desc := "(II)V" } : Jvm.MethodName)) ∈ lw_all := lw_g (lw_at lw_m3 180 rfl) rfl
theorem q764 : (Jvm.Cond.methodLink "ScaleInspection$Parser" (100 : Nat) ({ cls := "ScaleInspection$Parser", name := "advance", desc := "()V" } : Jvm.MethodName)) ∈ lw_all := lw_g (lw_at lw_m3 199 rfl) rfl
theorem q765 : (Jvm.Cond.privateMethod ({ cls := "ScaleInspection$Parser", name := "advance", desc := "()V" } : Jvm.MethodName)) ∈ lw_tbl := lw_at lw_m3 200 rfl
theorem q766 : (Jvm.Cond.instanceMethod ({ cls := "ScaleInspection$Parser", name := "advance", desc := "()V" } : Jvm.MethodName)) ∈ lw_all := lw_g (lw_at lw_m3 201 rfl) rfl
theorem q767 : (Jvm.Cond.code ({ cls := "ScaleInspection$Parser", name := "advance", desc := "()V" } : Jvm.MethodName) prog_12_method_4_code (1 : Nat) (Option.none : Option Jvm.ClassFile.FieldType)) ∈ lw_all := lw_g (lw_at lw_m3 202 rfl) rfl
theorem q768 : (Jvm.Cond.stringRef "ScaleInspection$Parser" (132 : Nat) "scale") ∈ lw_tbl := lw_at lw_m3 203 rfl
theorem q769 : (Jvm.Cond.methodLink "ScaleInspection$Parser" (138 : Nat) ({ cls := "java/util/ArrayList", name := "size", desc := "()I" } : Jvm.MethodName)) ∈ lw_all := lw_g (lw_at lw_m3 204 rfl) rfl
theorem q773 : (Jvm.Cond.methodLink "ScaleInspection$Parser" (143 : Nat) ({ cls := "ScaleInspection$Parser", name := "scale", desc := "()V" } : Jvm.MethodName)) ∈ lw_all := lw_g (lw_at lw_m3 208 rfl) rfl
theorem q774 : (Jvm.Cond.privateMethod ({ cls := "ScaleInspection$Parser", name := "scale", desc := "()V" } : Jvm.MethodName)) ∈ lw_tbl := lw_at lw_m3 209 rfl
theorem q775 : (Jvm.Cond.instanceMethod ({ cls := "ScaleInspection$Parser", name := "scale", desc := "()V" } : Jvm.MethodName)) ∈ lw_all := lw_g (lw_at lw_m3 210 rfl) rfl
theorem q776 : (Jvm.Cond.code ({ cls := "ScaleInspection$Parser", name := "scale", desc := "()V" } : Jvm.MethodName) prog_12_method_11_code (4 : Nat) (Option.none : Option Jvm.ClassFile.FieldType)) ∈ lw_all := lw_g (lw_at lw_m3 211 rfl) rfl
theorem q777 : (Jvm.Cond.methodLink "ScaleInspection$Parser" (157 : Nat) ({ cls := "ScaleInspection$Parser", name := "number", desc := "(II)I" } : Jvm.MethodName)) ∈ lw_all := lw_g (lw_at lw_m3 212 rfl) rfl
theorem q778 : (Jvm.Cond.privateMethod ({ cls := "ScaleInspection$Parser", name := "number", desc := "(II)I" } : Jvm.MethodName)) ∈ lw_tbl := lw_at lw_m3 213 rfl
theorem q779 : (Jvm.Cond.instanceMethod ({ cls := "ScaleInspection$Parser", name := "number", desc := "(II)I" } : Jvm.MethodName)) ∈ lw_all := lw_g (lw_at lw_m3 214 rfl) rfl
theorem q780 : (Jvm.Cond.code ({ cls := "ScaleInspection$Parser", name := "number", desc := "(II)I" } : Jvm.MethodName) prog_12_method_7_code (4 : Nat) (Option.some Jvm.ClassFile.FieldType.int)) ∈ lw_all := lw_g (lw_at lw_m3 215 rfl) rfl
theorem q781 : (Jvm.Cond.methodLink "ScaleInspection$Parser" (103 : Nat) ({ cls := "ScaleInspection$Token", name := "isNumber", desc := "()Z" } : Jvm.MethodName)) ∈ lw_all := lw_g (lw_at lw_m3 216 rfl) rfl
theorem q790 : (Jvm.Cond.methodLink "ScaleInspection$Parser" (111 : Nat) ({ cls := "ScaleInspection$Token", name := "value", desc := "()I" } : Jvm.MethodName)) ∈ lw_all := lw_g (lw_at lw_m3 225 rfl) rfl
theorem q799 : (Jvm.Cond.classLink "ScaleInspection$Parser" (179 : Nat) "ScaleInspection$Scale") ∈ lw_all := lw_g (lw_at lw_m3 234 rfl) rfl
theorem q801 : (Jvm.Cond.constant "ScaleInspection$Parser" (181 : Nat) (999999 : Int32)) ∈ lw_all := lw_g (lw_at lw_m3 236 rfl) rfl
theorem q802 : (Jvm.Cond.methodLink "ScaleInspection$Parser" (182 : Nat) ({ cls := "ScaleInspection$Scale", name := "<init>", desc := "(IIII)V" } : Jvm.MethodName)) ∈ lw_all := lw_g (lw_at lw_m3 237 rfl) rfl
theorem q836 : (Jvm.Cond.methodLink "ScaleInspection$Parser" (171 : Nat) ({ cls := "java/util/ArrayList", name := "add", desc := "(Ljava/lang/Object;)Z" } : Jvm.MethodName)) ∈ lw_all := lw_g (lw_at lw_m4 31 rfl) rfl
theorem q871 : (Jvm.Cond.selects "ScaleInspection$Parser" ({ cls := "java/lang/Object", name := "getClass", desc := "()Ljava/lang/Class;" } : Jvm.MethodName) ({ cls := "java/lang/Object", name := "getClass", desc := "()Ljava/lang/Class;" } : Jvm.MethodName)) ∈ lw_all := lw_g (lw_at lw_m4 66 rfl) rfl
theorem q893 : (Jvm.Cond.stringRef "ScaleInspection$Parser" (145 : Nat) "mass") ∈ lw_tbl := lw_at lw_m4 88 rfl
theorem q894 : (Jvm.Cond.methodLink "ScaleInspection$Parser" (150 : Nat) ({ cls := "ScaleInspection$Parser", name := "mass", desc := "()V" } : Jvm.MethodName)) ∈ lw_all := lw_g (lw_at lw_m4 89 rfl) rfl
theorem q895 : (Jvm.Cond.privateMethod ({ cls := "ScaleInspection$Parser", name := "mass", desc := "()V" } : Jvm.MethodName)) ∈ lw_tbl := lw_at lw_m4 90 rfl
theorem q896 : (Jvm.Cond.instanceMethod ({ cls := "ScaleInspection$Parser", name := "mass", desc := "()V" } : Jvm.MethodName)) ∈ lw_all := lw_g (lw_at lw_m4 91 rfl) rfl
theorem q897 : (Jvm.Cond.code ({ cls := "ScaleInspection$Parser", name := "mass", desc := "()V" } : Jvm.MethodName) prog_12_method_12_code (3 : Nat) (Option.none : Option Jvm.ClassFile.FieldType)) ∈ lw_all := lw_g (lw_at lw_m4 92 rfl) rfl
theorem q898 : (Jvm.Cond.stringRef "ScaleInspection$Parser" (185 : Nat) "plus") ∈ lw_tbl := lw_at lw_m4 93 rfl
theorem q899 : (Jvm.Cond.methodLink "ScaleInspection$Parser" (165 : Nat) ({ cls := "ScaleInspection$Parser", name := "takes", desc := "(Ljava/lang/String;)Z" } : Jvm.MethodName)) ∈ lw_all := lw_g (lw_at lw_m4 94 rfl) rfl
theorem q900 : (Jvm.Cond.privateMethod ({ cls := "ScaleInspection$Parser", name := "takes", desc := "(Ljava/lang/String;)Z" } : Jvm.MethodName)) ∈ lw_tbl := lw_at lw_m4 95 rfl
theorem q901 : (Jvm.Cond.instanceMethod ({ cls := "ScaleInspection$Parser", name := "takes", desc := "(Ljava/lang/String;)Z" } : Jvm.MethodName)) ∈ lw_all := lw_g (lw_at lw_m4 96 rfl) rfl
theorem q902 : (Jvm.Cond.code ({ cls := "ScaleInspection$Parser", name := "takes", desc := "(Ljava/lang/String;)Z" } : Jvm.MethodName) prog_12_method_6_code (3 : Nat) (Option.some Jvm.ClassFile.FieldType.boolean)) ∈ lw_all := lw_g (lw_at lw_m4 97 rfl) rfl
theorem q903 : (Jvm.Cond.stringRef "ScaleInspection$Parser" (187 : Nat) "minus") ∈ lw_tbl := lw_at lw_m4 98 rfl
theorem q904 : (Jvm.Cond.methodLink "ScaleInspection$Parser" (189 : Nat) ({ cls := "java/lang/Math", name := "min", desc := "(II)I" } : Jvm.MethodName)) ∈ lw_all := lw_g (lw_at lw_m4 99 rfl) rfl
theorem q905 : (Jvm.Cond.stringRef "ScaleInspection$Parser" (152 : Nat) "set") ∈ lw_tbl := lw_at lw_m4 100 rfl
theorem q906 : (Jvm.Cond.classLink "ScaleInspection$Parser" (161 : Nat) "ScaleInspection$WeightSet") ∈ lw_all := lw_g (lw_at lw_m4 101 rfl) rfl
theorem q908 : (Jvm.Cond.stringRef "ScaleInspection$Parser" (163 : Nat) "maybe") ∈ lw_tbl := lw_at lw_m4 103 rfl
theorem q909 : (Jvm.Cond.methodLink "ScaleInspection$Parser" (168 : Nat) ({ cls := "ScaleInspection$WeightSet", name := "<init>", desc := "(IZ)V" } : Jvm.MethodName)) ∈ lw_all := lw_g (lw_at lw_m4 104 rfl) rfl
theorem q922 : (Jvm.Cond.stringRef "ScaleInspection$Parser" (175 : Nat) "term") ∈ lw_tbl := lw_at lw_m4 117 rfl
theorem q923 : (Jvm.Cond.methodLink "ScaleInspection$Parser" (177 : Nat) ({ cls := "ScaleInspection$Parser", name := "term", desc := "()V" } : Jvm.MethodName)) ∈ lw_all := lw_g (lw_at lw_m4 118 rfl) rfl
theorem q924 : (Jvm.Cond.privateMethod ({ cls := "ScaleInspection$Parser", name := "term", desc := "()V" } : Jvm.MethodName)) ∈ lw_tbl := lw_at lw_m4 119 rfl
theorem q925 : (Jvm.Cond.instanceMethod ({ cls := "ScaleInspection$Parser", name := "term", desc := "()V" } : Jvm.MethodName)) ∈ lw_all := lw_g (lw_at lw_m4 120 rfl) rfl
theorem q926 : (Jvm.Cond.code ({ cls := "ScaleInspection$Parser", name := "term", desc := "()V" } : Jvm.MethodName) prog_12_method_13_code (2 : Nat) (Option.none : Option Jvm.ClassFile.FieldType)) ∈ lw_all := lw_g (lw_at lw_m4 121 rfl) rfl
theorem q927 : (Jvm.Cond.methodLinkNest "ScaleInspection$Parser" (201 : Nat) ({ cls := "ScaleInspection", name := "isIn", desc := "(II)Z" } : Jvm.MethodName) "ScaleInspection") ∈ lw_tbl := lw_at lw_m4 122 rfl
theorem q930 : (Jvm.Cond.methodLink "ScaleInspection$Parser" (120 : Nat) ({ cls := "ScaleInspection$Token", name := "isSemicolon", desc := "()Z" } : Jvm.MethodName)) ∈ lw_all := lw_g (lw_at lw_m4 125 rfl) rfl
theorem q2212 : (Jvm.Cond.castable "ScaleInspection$Parser" "java/lang/Object") ∈ lw_tbl := lw_at lw_m9 207 rfl


set_option maxRecDepth 100000
/-! ScaleInspection$Solver -/
abbrev cX16_init : ByteArray := prog_15_method_1_code
def yX16_init : MethodName := ⟨RX16, "<init>", "(I)V"⟩
def dkwX16_init_2 : List UInt8 := [2, 79, 132, 2, 1, 167, 255, 237, 177]
abbrev dktX16_init_2 : List UInt8 := dkwX16_init_2 ++ []
def dkwX16_init_1 : List UInt8 := [181, 0, 18, 42, 27, 181, 0, 21, 3, 61, 28, 42, 180, 0, 11, 190, 162, 0, 16, 42, 180, 0, 11, 28]
abbrev dktX16_init_1 : List UInt8 := dkwX16_init_1 ++ dktX16_init_2
def dkwX16_init_0 : List UInt8 := [42, 183, 0, 3, 42, 17, 17, 42, 188, 10, 181, 0, 11, 42, 6, 188, 10, 181, 0, 15, 42, 6, 188, 10]
abbrev dktX16_init_0 : List UInt8 := dkwX16_init_0 ++ dktX16_init_1
theorem dksX16_init_0 : cX16_init.data.toList.drop 0 = dktX16_init_0 := by decide +kernel
theorem dksX16_init_1 : cX16_init.data.toList.drop 24 = dktX16_init_1 := dk_seg dksX16_init_0 24 rfl rfl
theorem dksX16_init_2 : cX16_init.data.toList.drop 48 = dktX16_init_2 := dk_seg dksX16_init_1 24 rfl rfl
theorem dX16_init_0 : decode cX16_init 0 = .ok (.aload_n 0, 1) := dk_42 (dk_at dksX16_init_0 0 rfl rfl)
theorem dX16_init_1 : decode cX16_init 1 = .ok (.invokespecial 3, 3) := dk_183 0 3 (dk_at dksX16_init_0 1 rfl rfl)
theorem dX16_init_4 : decode cX16_init 4 = .ok (.aload_n 0, 1) := dk_42 (dk_at dksX16_init_0 4 rfl rfl)
theorem dX16_init_5 : decode cX16_init 5 = .ok (.sipush 4394, 3) := dk_17 17 42 (dk_at dksX16_init_0 5 rfl rfl)
theorem dX16_init_8 : decode cX16_init 8 = .ok (.newarray .int, 2) := dk_188_10 (dk_at dksX16_init_0 8 rfl rfl)
theorem dX16_init_10 : decode cX16_init 10 = .ok (.putfield 11, 3) := dk_181 0 11 (dk_at dksX16_init_0 10 rfl rfl)
theorem dX16_init_13 : decode cX16_init 13 = .ok (.aload_n 0, 1) := dk_42 (dk_at dksX16_init_0 13 rfl rfl)
theorem dX16_init_14 : decode cX16_init 14 = .ok (.iconst 3, 1) := dk_6 (dk_at dksX16_init_0 14 rfl rfl)
theorem dX16_init_15 : decode cX16_init 15 = .ok (.newarray .int, 2) := dk_188_10 (dk_at dksX16_init_0 15 rfl rfl)
theorem dX16_init_17 : decode cX16_init 17 = .ok (.putfield 15, 3) := dk_181 0 15 (dk_at dksX16_init_0 17 rfl rfl)
theorem dX16_init_20 : decode cX16_init 20 = .ok (.aload_n 0, 1) := dk_42 (dk_at dksX16_init_0 20 rfl rfl)
theorem dX16_init_21 : decode cX16_init 21 = .ok (.iconst 3, 1) := dk_6 (dk_at dksX16_init_0 21 rfl rfl)
theorem dX16_init_22 : decode cX16_init 22 = .ok (.newarray .int, 2) := dk_188_10 (dk_at dksX16_init_0 22 rfl rfl)
theorem dX16_init_24 : decode cX16_init 24 = .ok (.putfield 18, 3) := dk_181 0 18 (dk_at dksX16_init_1 0 rfl rfl)
theorem dX16_init_27 : decode cX16_init 27 = .ok (.aload_n 0, 1) := dk_42 (dk_at dksX16_init_1 3 rfl rfl)
theorem dX16_init_28 : decode cX16_init 28 = .ok (.iload_n 1, 1) := dk_27 (dk_at dksX16_init_1 4 rfl rfl)
theorem dX16_init_29 : decode cX16_init 29 = .ok (.putfield 21, 3) := dk_181 0 21 (dk_at dksX16_init_1 5 rfl rfl)
theorem dX16_init_32 : decode cX16_init 32 = .ok (.iconst 0, 1) := dk_3 (dk_at dksX16_init_1 8 rfl rfl)
theorem dX16_init_33 : decode cX16_init 33 = .ok (.istore_n 2, 1) := dk_61 (dk_at dksX16_init_1 9 rfl rfl)
theorem dX16_init_34 : decode cX16_init 34 = .ok (.iload_n 2, 1) := dk_28 (dk_at dksX16_init_1 10 rfl rfl)
theorem dX16_init_35 : decode cX16_init 35 = .ok (.aload_n 0, 1) := dk_42 (dk_at dksX16_init_1 11 rfl rfl)
theorem dX16_init_36 : decode cX16_init 36 = .ok (.getfield 11, 3) := dk_180 0 11 (dk_at dksX16_init_1 12 rfl rfl)
theorem dX16_init_39 : decode cX16_init 39 = .ok (.arraylength, 1) := dk_190 (dk_at dksX16_init_1 15 rfl rfl)
theorem dX16_init_40 : decode cX16_init 40 = .ok (.if_icmp .ge 16, 3) := dk_162 0 16 (dk_at dksX16_init_1 16 rfl rfl)
theorem dX16_init_43 : decode cX16_init 43 = .ok (.aload_n 0, 1) := dk_42 (dk_at dksX16_init_1 19 rfl rfl)
theorem dX16_init_44 : decode cX16_init 44 = .ok (.getfield 11, 3) := dk_180 0 11 (dk_at dksX16_init_1 20 rfl rfl)
theorem dX16_init_47 : decode cX16_init 47 = .ok (.iload_n 2, 1) := dk_28 (dk_at dksX16_init_1 23 rfl rfl)
theorem dX16_init_48 : decode cX16_init 48 = .ok (.iconst (-1), 1) := dk_2 (dk_at dksX16_init_2 0 rfl rfl)
theorem dX16_init_49 : decode cX16_init 49 = .ok (.iastore, 1) := dk_79 (dk_at dksX16_init_2 1 rfl rfl)
theorem dX16_init_50 : decode cX16_init 50 = .ok (.iinc 2 1, 3) := dk_132 2 1 (dk_at dksX16_init_2 2 rfl rfl)
theorem dX16_init_53 : decode cX16_init 53 = .ok (.goto (-19), 3) := dk_167 255 237 (dk_at dksX16_init_2 5 rfl rfl)
theorem dX16_init_56 : decode cX16_init 56 = .ok (.return_, 1) := dk_177 (dk_at dksX16_init_2 8 rfl rfl)
abbrev cX16_needed : ByteArray := prog_15_method_3_code
def yX16_needed : MethodName := ⟨RX16, "needed", "(IIII)I"⟩
def dkwX16_needed_5 : List UInt8 := [167, 255, 210, 132, 8, 1, 167, 255, 195, 42, 180, 0, 11, 21, 6, 21, 7, 79, 21, 7, 172]
abbrev dktX16_needed_5 : List UInt8 := dkwX16_needed_5 ++ []
def dkwX16_needed_4 : List UInt8 := [21, 8, 21, 9, 21, 10, 182, 0, 29, 184, 0, 33, 54, 7, 132, 10, 1, 167, 255, 225, 132, 9, 1]
abbrev dktX16_needed_4 : List UInt8 := dkwX16_needed_4 ++ dktX16_needed_5
def dkwX16_needed_3 : List UInt8 := [21, 9, 28, 163, 0, 46, 3, 54, 10, 21, 10, 29, 163, 0, 31, 21, 7, 42, 27, 28, 29, 21, 4]
abbrev dktX16_needed_3 : List UInt8 := dkwX16_needed_3 ++ dktX16_needed_4
def dkwX16_needed_2 : List UInt8 := [42, 180, 0, 11, 21, 6, 46, 172, 16, 99, 54, 7, 3, 54, 8, 21, 8, 27, 163, 0, 61, 3, 54, 9]
abbrev dktX16_needed_2 : List UInt8 := dkwX16_needed_2 ++ dktX16_needed_3
def dkwX16_needed_1 : List UInt8 := [96, 16, 13, 104, 28, 96, 16, 13, 104, 29, 96, 54, 6, 42, 180, 0, 11, 21, 6, 46, 2, 159, 0, 11]
abbrev dktX16_needed_1 : List UInt8 := dkwX16_needed_1 ++ dktX16_needed_2
def dkwX16_needed_0 : List UInt8 := [27, 28, 29, 21, 4, 184, 0, 25, 54, 5, 21, 5, 4, 163, 0, 5, 3, 172, 21, 4, 16, 13, 104, 27]
abbrev dktX16_needed_0 : List UInt8 := dkwX16_needed_0 ++ dktX16_needed_1
theorem dksX16_needed_0 : cX16_needed.data.toList.drop 0 = dktX16_needed_0 := by decide +kernel
theorem dksX16_needed_1 : cX16_needed.data.toList.drop 24 = dktX16_needed_1 := dk_seg dksX16_needed_0 24 rfl rfl
theorem dksX16_needed_2 : cX16_needed.data.toList.drop 48 = dktX16_needed_2 := dk_seg dksX16_needed_1 24 rfl rfl
theorem dksX16_needed_3 : cX16_needed.data.toList.drop 72 = dktX16_needed_3 := dk_seg dksX16_needed_2 24 rfl rfl
theorem dksX16_needed_4 : cX16_needed.data.toList.drop 95 = dktX16_needed_4 := dk_seg dksX16_needed_3 23 rfl rfl
theorem dksX16_needed_5 : cX16_needed.data.toList.drop 118 = dktX16_needed_5 := dk_seg dksX16_needed_4 23 rfl rfl
theorem dX16_needed_0 : decode cX16_needed 0 = .ok (.iload_n 1, 1) := dk_27 (dk_at dksX16_needed_0 0 rfl rfl)
theorem dX16_needed_1 : decode cX16_needed 1 = .ok (.iload_n 2, 1) := dk_28 (dk_at dksX16_needed_0 1 rfl rfl)
theorem dX16_needed_2 : decode cX16_needed 2 = .ok (.iload_n 3, 1) := dk_29 (dk_at dksX16_needed_0 2 rfl rfl)
theorem dX16_needed_3 : decode cX16_needed 3 = .ok (.iload 4, 2) := dk_21 4 (dk_at dksX16_needed_0 3 rfl rfl)
theorem dX16_needed_5 : decode cX16_needed 5 = .ok (.invokestatic 25, 3) := dk_184 0 25 (dk_at dksX16_needed_0 5 rfl rfl)
theorem dX16_needed_8 : decode cX16_needed 8 = .ok (.istore 5, 2) := dk_54 5 (dk_at dksX16_needed_0 8 rfl rfl)
theorem dX16_needed_10 : decode cX16_needed 10 = .ok (.iload 5, 2) := dk_21 5 (dk_at dksX16_needed_0 10 rfl rfl)
theorem dX16_needed_12 : decode cX16_needed 12 = .ok (.iconst 1, 1) := dk_4 (dk_at dksX16_needed_0 12 rfl rfl)
theorem dX16_needed_13 : decode cX16_needed 13 = .ok (.if_icmp .gt 5, 3) := dk_163 0 5 (dk_at dksX16_needed_0 13 rfl rfl)
theorem dX16_needed_16 : decode cX16_needed 16 = .ok (.iconst 0, 1) := dk_3 (dk_at dksX16_needed_0 16 rfl rfl)
theorem dX16_needed_17 : decode cX16_needed 17 = .ok (.ireturn, 1) := dk_172 (dk_at dksX16_needed_0 17 rfl rfl)
theorem dX16_needed_18 : decode cX16_needed 18 = .ok (.iload 4, 2) := dk_21 4 (dk_at dksX16_needed_0 18 rfl rfl)
theorem dX16_needed_20 : decode cX16_needed 20 = .ok (.bipush 13, 2) := dk_16 13 (dk_at dksX16_needed_0 20 rfl rfl)
theorem dX16_needed_22 : decode cX16_needed 22 = .ok (.imul, 1) := dk_104 (dk_at dksX16_needed_0 22 rfl rfl)
theorem dX16_needed_23 : decode cX16_needed 23 = .ok (.iload_n 1, 1) := dk_27 (dk_at dksX16_needed_0 23 rfl rfl)
theorem dX16_needed_24 : decode cX16_needed 24 = .ok (.iadd, 1) := dk_96 (dk_at dksX16_needed_1 0 rfl rfl)
theorem dX16_needed_25 : decode cX16_needed 25 = .ok (.bipush 13, 2) := dk_16 13 (dk_at dksX16_needed_1 1 rfl rfl)
theorem dX16_needed_27 : decode cX16_needed 27 = .ok (.imul, 1) := dk_104 (dk_at dksX16_needed_1 3 rfl rfl)
theorem dX16_needed_28 : decode cX16_needed 28 = .ok (.iload_n 2, 1) := dk_28 (dk_at dksX16_needed_1 4 rfl rfl)
theorem dX16_needed_29 : decode cX16_needed 29 = .ok (.iadd, 1) := dk_96 (dk_at dksX16_needed_1 5 rfl rfl)
theorem dX16_needed_30 : decode cX16_needed 30 = .ok (.bipush 13, 2) := dk_16 13 (dk_at dksX16_needed_1 6 rfl rfl)
theorem dX16_needed_32 : decode cX16_needed 32 = .ok (.imul, 1) := dk_104 (dk_at dksX16_needed_1 8 rfl rfl)
theorem dX16_needed_33 : decode cX16_needed 33 = .ok (.iload_n 3, 1) := dk_29 (dk_at dksX16_needed_1 9 rfl rfl)
theorem dX16_needed_34 : decode cX16_needed 34 = .ok (.iadd, 1) := dk_96 (dk_at dksX16_needed_1 10 rfl rfl)
theorem dX16_needed_35 : decode cX16_needed 35 = .ok (.istore 6, 2) := dk_54 6 (dk_at dksX16_needed_1 11 rfl rfl)
theorem dX16_needed_37 : decode cX16_needed 37 = .ok (.aload_n 0, 1) := dk_42 (dk_at dksX16_needed_1 13 rfl rfl)
theorem dX16_needed_38 : decode cX16_needed 38 = .ok (.getfield 11, 3) := dk_180 0 11 (dk_at dksX16_needed_1 14 rfl rfl)
theorem dX16_needed_41 : decode cX16_needed 41 = .ok (.iload 6, 2) := dk_21 6 (dk_at dksX16_needed_1 17 rfl rfl)
theorem dX16_needed_43 : decode cX16_needed 43 = .ok (.iaload, 1) := dk_46 (dk_at dksX16_needed_1 19 rfl rfl)
theorem dX16_needed_44 : decode cX16_needed 44 = .ok (.iconst (-1), 1) := dk_2 (dk_at dksX16_needed_1 20 rfl rfl)
theorem dX16_needed_45 : decode cX16_needed 45 = .ok (.if_icmp .eq 11, 3) := dk_159 0 11 (dk_at dksX16_needed_1 21 rfl rfl)
theorem dX16_needed_48 : decode cX16_needed 48 = .ok (.aload_n 0, 1) := dk_42 (dk_at dksX16_needed_2 0 rfl rfl)
theorem dX16_needed_49 : decode cX16_needed 49 = .ok (.getfield 11, 3) := dk_180 0 11 (dk_at dksX16_needed_2 1 rfl rfl)
theorem dX16_needed_52 : decode cX16_needed 52 = .ok (.iload 6, 2) := dk_21 6 (dk_at dksX16_needed_2 4 rfl rfl)
theorem dX16_needed_54 : decode cX16_needed 54 = .ok (.iaload, 1) := dk_46 (dk_at dksX16_needed_2 6 rfl rfl)
theorem dX16_needed_55 : decode cX16_needed 55 = .ok (.ireturn, 1) := dk_172 (dk_at dksX16_needed_2 7 rfl rfl)
theorem dX16_needed_56 : decode cX16_needed 56 = .ok (.bipush 99, 2) := dk_16 99 (dk_at dksX16_needed_2 8 rfl rfl)
theorem dX16_needed_58 : decode cX16_needed 58 = .ok (.istore 7, 2) := dk_54 7 (dk_at dksX16_needed_2 10 rfl rfl)
theorem dX16_needed_60 : decode cX16_needed 60 = .ok (.iconst 0, 1) := dk_3 (dk_at dksX16_needed_2 12 rfl rfl)
theorem dX16_needed_61 : decode cX16_needed 61 = .ok (.istore 8, 2) := dk_54 8 (dk_at dksX16_needed_2 13 rfl rfl)
theorem dX16_needed_63 : decode cX16_needed 63 = .ok (.iload 8, 2) := dk_21 8 (dk_at dksX16_needed_2 15 rfl rfl)
theorem dX16_needed_65 : decode cX16_needed 65 = .ok (.iload_n 1, 1) := dk_27 (dk_at dksX16_needed_2 17 rfl rfl)
theorem dX16_needed_66 : decode cX16_needed 66 = .ok (.if_icmp .gt 61, 3) := dk_163 0 61 (dk_at dksX16_needed_2 18 rfl rfl)
theorem dX16_needed_69 : decode cX16_needed 69 = .ok (.iconst 0, 1) := dk_3 (dk_at dksX16_needed_2 21 rfl rfl)
theorem dX16_needed_70 : decode cX16_needed 70 = .ok (.istore 9, 2) := dk_54 9 (dk_at dksX16_needed_2 22 rfl rfl)
theorem dX16_needed_72 : decode cX16_needed 72 = .ok (.iload 9, 2) := dk_21 9 (dk_at dksX16_needed_3 0 rfl rfl)
theorem dX16_needed_74 : decode cX16_needed 74 = .ok (.iload_n 2, 1) := dk_28 (dk_at dksX16_needed_3 2 rfl rfl)
theorem dX16_needed_75 : decode cX16_needed 75 = .ok (.if_icmp .gt 46, 3) := dk_163 0 46 (dk_at dksX16_needed_3 3 rfl rfl)
theorem dX16_needed_78 : decode cX16_needed 78 = .ok (.iconst 0, 1) := dk_3 (dk_at dksX16_needed_3 6 rfl rfl)
theorem dX16_needed_79 : decode cX16_needed 79 = .ok (.istore 10, 2) := dk_54 10 (dk_at dksX16_needed_3 7 rfl rfl)
theorem dX16_needed_81 : decode cX16_needed 81 = .ok (.iload 10, 2) := dk_21 10 (dk_at dksX16_needed_3 9 rfl rfl)
theorem dX16_needed_83 : decode cX16_needed 83 = .ok (.iload_n 3, 1) := dk_29 (dk_at dksX16_needed_3 11 rfl rfl)
theorem dX16_needed_84 : decode cX16_needed 84 = .ok (.if_icmp .gt 31, 3) := dk_163 0 31 (dk_at dksX16_needed_3 12 rfl rfl)
theorem dX16_needed_87 : decode cX16_needed 87 = .ok (.iload 7, 2) := dk_21 7 (dk_at dksX16_needed_3 15 rfl rfl)
theorem dX16_needed_89 : decode cX16_needed 89 = .ok (.aload_n 0, 1) := dk_42 (dk_at dksX16_needed_3 17 rfl rfl)
theorem dX16_needed_90 : decode cX16_needed 90 = .ok (.iload_n 1, 1) := dk_27 (dk_at dksX16_needed_3 18 rfl rfl)
theorem dX16_needed_91 : decode cX16_needed 91 = .ok (.iload_n 2, 1) := dk_28 (dk_at dksX16_needed_3 19 rfl rfl)
theorem dX16_needed_92 : decode cX16_needed 92 = .ok (.iload_n 3, 1) := dk_29 (dk_at dksX16_needed_3 20 rfl rfl)
theorem dX16_needed_93 : decode cX16_needed 93 = .ok (.iload 4, 2) := dk_21 4 (dk_at dksX16_needed_3 21 rfl rfl)
theorem dX16_needed_95 : decode cX16_needed 95 = .ok (.iload 8, 2) := dk_21 8 (dk_at dksX16_needed_4 0 rfl rfl)
theorem dX16_needed_97 : decode cX16_needed 97 = .ok (.iload 9, 2) := dk_21 9 (dk_at dksX16_needed_4 2 rfl rfl)
theorem dX16_needed_99 : decode cX16_needed 99 = .ok (.iload 10, 2) := dk_21 10 (dk_at dksX16_needed_4 4 rfl rfl)
theorem dX16_needed_101 : decode cX16_needed 101 = .ok (.invokevirtual 29, 3) := dk_182 0 29 (dk_at dksX16_needed_4 6 rfl rfl)
theorem dX16_needed_104 : decode cX16_needed 104 = .ok (.invokestatic 33, 3) := dk_184 0 33 (dk_at dksX16_needed_4 9 rfl rfl)
theorem dX16_needed_107 : decode cX16_needed 107 = .ok (.istore 7, 2) := dk_54 7 (dk_at dksX16_needed_4 12 rfl rfl)
theorem dX16_needed_109 : decode cX16_needed 109 = .ok (.iinc 10 1, 3) := dk_132 10 1 (dk_at dksX16_needed_4 14 rfl rfl)
theorem dX16_needed_112 : decode cX16_needed 112 = .ok (.goto (-31), 3) := dk_167 255 225 (dk_at dksX16_needed_4 17 rfl rfl)
theorem dX16_needed_115 : decode cX16_needed 115 = .ok (.iinc 9 1, 3) := dk_132 9 1 (dk_at dksX16_needed_4 20 rfl rfl)
theorem dX16_needed_118 : decode cX16_needed 118 = .ok (.goto (-46), 3) := dk_167 255 210 (dk_at dksX16_needed_5 0 rfl rfl)
theorem dX16_needed_121 : decode cX16_needed 121 = .ok (.iinc 8 1, 3) := dk_132 8 1 (dk_at dksX16_needed_5 3 rfl rfl)
theorem dX16_needed_124 : decode cX16_needed 124 = .ok (.goto (-61), 3) := dk_167 255 195 (dk_at dksX16_needed_5 6 rfl rfl)
theorem dX16_needed_127 : decode cX16_needed 127 = .ok (.aload_n 0, 1) := dk_42 (dk_at dksX16_needed_5 9 rfl rfl)
theorem dX16_needed_128 : decode cX16_needed 128 = .ok (.getfield 11, 3) := dk_180 0 11 (dk_at dksX16_needed_5 10 rfl rfl)
theorem dX16_needed_131 : decode cX16_needed 131 = .ok (.iload 6, 2) := dk_21 6 (dk_at dksX16_needed_5 13 rfl rfl)
theorem dX16_needed_133 : decode cX16_needed 133 = .ok (.iload 7, 2) := dk_21 7 (dk_at dksX16_needed_5 15 rfl rfl)
theorem dX16_needed_135 : decode cX16_needed 135 = .ok (.iastore, 1) := dk_79 (dk_at dksX16_needed_5 17 rfl rfl)
theorem dX16_needed_136 : decode cX16_needed 136 = .ok (.iload 7, 2) := dk_21 7 (dk_at dksX16_needed_5 18 rfl rfl)
theorem dX16_needed_138 : decode cX16_needed 138 = .ok (.ireturn, 1) := dk_172 (dk_at dksX16_needed_5 20 rfl rfl)
abbrev cX16_hypotheses : ByteArray := prog_15_method_2_code
def yX16_hypotheses : MethodName := ⟨RX16, "hypotheses", "(IIII)I"⟩
def dkwX16_hypotheses_0 : List UInt8 := [5, 26, 104, 27, 96, 28, 96, 29, 96, 172]
abbrev dktX16_hypotheses_0 : List UInt8 := dkwX16_hypotheses_0 ++ []
theorem dksX16_hypotheses_0 : cX16_hypotheses.data.toList.drop 0 = dktX16_hypotheses_0 := by decide +kernel
theorem dX16_hypotheses_0 : decode cX16_hypotheses 0 = .ok (.iconst 2, 1) := dk_5 (dk_at dksX16_hypotheses_0 0 rfl rfl)
theorem dX16_hypotheses_1 : decode cX16_hypotheses 1 = .ok (.iload_n 0, 1) := dk_26 (dk_at dksX16_hypotheses_0 1 rfl rfl)
theorem dX16_hypotheses_2 : decode cX16_hypotheses 2 = .ok (.imul, 1) := dk_104 (dk_at dksX16_hypotheses_0 2 rfl rfl)
theorem dX16_hypotheses_3 : decode cX16_hypotheses 3 = .ok (.iload_n 1, 1) := dk_27 (dk_at dksX16_hypotheses_0 3 rfl rfl)
theorem dX16_hypotheses_4 : decode cX16_hypotheses 4 = .ok (.iadd, 1) := dk_96 (dk_at dksX16_hypotheses_0 4 rfl rfl)
theorem dX16_hypotheses_5 : decode cX16_hypotheses 5 = .ok (.iload_n 2, 1) := dk_28 (dk_at dksX16_hypotheses_0 5 rfl rfl)
theorem dX16_hypotheses_6 : decode cX16_hypotheses 6 = .ok (.iadd, 1) := dk_96 (dk_at dksX16_hypotheses_0 6 rfl rfl)
theorem dX16_hypotheses_7 : decode cX16_hypotheses 7 = .ok (.iload_n 3, 1) := dk_29 (dk_at dksX16_hypotheses_0 7 rfl rfl)
theorem dX16_hypotheses_8 : decode cX16_hypotheses 8 = .ok (.iadd, 1) := dk_96 (dk_at dksX16_hypotheses_0 8 rfl rfl)
theorem dX16_hypotheses_9 : decode cX16_hypotheses 9 = .ok (.ireturn, 1) := dk_172 (dk_at dksX16_hypotheses_0 9 rfl rfl)
abbrev cX16_withLeft : ByteArray := prog_15_method_4_code
def yX16_withLeft : MethodName := ⟨RX16, "withLeft", "(IIIIIII)I"⟩
def dkwX16_withLeft_6 : List UInt8 := [167, 255, 136, 132, 9, 1, 167, 255, 118, 21, 8, 172]
abbrev dktX16_withLeft_6 : List UInt8 := dkwX16_withLeft_6 ++ []
def dkwX16_withLeft_5 : List UInt8 := [21, 10, 21, 11, 182, 0, 43, 96, 184, 0, 33, 54, 8, 132, 11, 1, 167, 255, 154, 132, 10, 1]
abbrev dktX16_withLeft_5 : List UInt8 := dkwX16_withLeft_5 ++ dktX16_withLeft_6
def dkwX16_withLeft_4 : List UInt8 := [164, 0, 6, 167, 0, 33, 21, 8, 4, 42, 27, 28, 29, 21, 4, 21, 5, 21, 6, 21, 7, 21, 9]
abbrev dktX16_withLeft_4 : List UInt8 := dkwX16_withLeft_4 ++ dktX16_withLeft_5
def dkwX16_withLeft_3 : List UInt8 := [96, 21, 10, 96, 21, 11, 96, 153, 0, 51, 21, 12, 42, 180, 0, 21, 27, 100, 28, 100, 29, 100]
abbrev dktX16_withLeft_3 : List UInt8 := dkwX16_withLeft_3 ++ dktX16_withLeft_4
def dkwX16_withLeft_2 : List UInt8 := [21, 9, 100, 21, 10, 100, 21, 11, 100, 184, 0, 39, 54, 12, 21, 5, 21, 6, 96, 21, 7, 96, 21, 9]
abbrev dktX16_withLeft_2 : List UInt8 := dkwX16_withLeft_2 ++ dktX16_withLeft_3
def dkwX16_withLeft_1 : List UInt8 := [100, 163, 0, 117, 3, 54, 11, 21, 11, 29, 21, 7, 100, 163, 0, 99, 21, 5, 21, 6, 96, 21, 7, 96]
abbrev dktX16_withLeft_1 : List UInt8 := dkwX16_withLeft_1 ++ dktX16_withLeft_2
def dkwX16_withLeft_0 : List UInt8 := [16, 99, 54, 8, 3, 54, 9, 21, 9, 27, 21, 5, 100, 163, 0, 135, 3, 54, 10, 21, 10, 28, 21, 6]
abbrev dktX16_withLeft_0 : List UInt8 := dkwX16_withLeft_0 ++ dktX16_withLeft_1
theorem dksX16_withLeft_0 : cX16_withLeft.data.toList.drop 0 = dktX16_withLeft_0 := by decide +kernel
theorem dksX16_withLeft_1 : cX16_withLeft.data.toList.drop 24 = dktX16_withLeft_1 := dk_seg dksX16_withLeft_0 24 rfl rfl
theorem dksX16_withLeft_2 : cX16_withLeft.data.toList.drop 48 = dktX16_withLeft_2 := dk_seg dksX16_withLeft_1 24 rfl rfl
theorem dksX16_withLeft_3 : cX16_withLeft.data.toList.drop 72 = dktX16_withLeft_3 := dk_seg dksX16_withLeft_2 24 rfl rfl
theorem dksX16_withLeft_4 : cX16_withLeft.data.toList.drop 94 = dktX16_withLeft_4 := dk_seg dksX16_withLeft_3 22 rfl rfl
theorem dksX16_withLeft_5 : cX16_withLeft.data.toList.drop 117 = dktX16_withLeft_5 := dk_seg dksX16_withLeft_4 23 rfl rfl
theorem dksX16_withLeft_6 : cX16_withLeft.data.toList.drop 139 = dktX16_withLeft_6 := dk_seg dksX16_withLeft_5 22 rfl rfl
theorem dX16_withLeft_0 : decode cX16_withLeft 0 = .ok (.bipush 99, 2) := dk_16 99 (dk_at dksX16_withLeft_0 0 rfl rfl)
theorem dX16_withLeft_2 : decode cX16_withLeft 2 = .ok (.istore 8, 2) := dk_54 8 (dk_at dksX16_withLeft_0 2 rfl rfl)
theorem dX16_withLeft_4 : decode cX16_withLeft 4 = .ok (.iconst 0, 1) := dk_3 (dk_at dksX16_withLeft_0 4 rfl rfl)
theorem dX16_withLeft_5 : decode cX16_withLeft 5 = .ok (.istore 9, 2) := dk_54 9 (dk_at dksX16_withLeft_0 5 rfl rfl)
theorem dX16_withLeft_7 : decode cX16_withLeft 7 = .ok (.iload 9, 2) := dk_21 9 (dk_at dksX16_withLeft_0 7 rfl rfl)
theorem dX16_withLeft_9 : decode cX16_withLeft 9 = .ok (.iload_n 1, 1) := dk_27 (dk_at dksX16_withLeft_0 9 rfl rfl)
theorem dX16_withLeft_10 : decode cX16_withLeft 10 = .ok (.iload 5, 2) := dk_21 5 (dk_at dksX16_withLeft_0 10 rfl rfl)
theorem dX16_withLeft_12 : decode cX16_withLeft 12 = .ok (.isub, 1) := dk_100 (dk_at dksX16_withLeft_0 12 rfl rfl)
theorem dX16_withLeft_13 : decode cX16_withLeft 13 = .ok (.if_icmp .gt 135, 3) := dk_163 0 135 (dk_at dksX16_withLeft_0 13 rfl rfl)
theorem dX16_withLeft_16 : decode cX16_withLeft 16 = .ok (.iconst 0, 1) := dk_3 (dk_at dksX16_withLeft_0 16 rfl rfl)
theorem dX16_withLeft_17 : decode cX16_withLeft 17 = .ok (.istore 10, 2) := dk_54 10 (dk_at dksX16_withLeft_0 17 rfl rfl)
theorem dX16_withLeft_19 : decode cX16_withLeft 19 = .ok (.iload 10, 2) := dk_21 10 (dk_at dksX16_withLeft_0 19 rfl rfl)
theorem dX16_withLeft_21 : decode cX16_withLeft 21 = .ok (.iload_n 2, 1) := dk_28 (dk_at dksX16_withLeft_0 21 rfl rfl)
theorem dX16_withLeft_22 : decode cX16_withLeft 22 = .ok (.iload 6, 2) := dk_21 6 (dk_at dksX16_withLeft_0 22 rfl rfl)
theorem dX16_withLeft_24 : decode cX16_withLeft 24 = .ok (.isub, 1) := dk_100 (dk_at dksX16_withLeft_1 0 rfl rfl)
theorem dX16_withLeft_25 : decode cX16_withLeft 25 = .ok (.if_icmp .gt 117, 3) := dk_163 0 117 (dk_at dksX16_withLeft_1 1 rfl rfl)
theorem dX16_withLeft_28 : decode cX16_withLeft 28 = .ok (.iconst 0, 1) := dk_3 (dk_at dksX16_withLeft_1 4 rfl rfl)
theorem dX16_withLeft_29 : decode cX16_withLeft 29 = .ok (.istore 11, 2) := dk_54 11 (dk_at dksX16_withLeft_1 5 rfl rfl)
theorem dX16_withLeft_31 : decode cX16_withLeft 31 = .ok (.iload 11, 2) := dk_21 11 (dk_at dksX16_withLeft_1 7 rfl rfl)
theorem dX16_withLeft_33 : decode cX16_withLeft 33 = .ok (.iload_n 3, 1) := dk_29 (dk_at dksX16_withLeft_1 9 rfl rfl)
theorem dX16_withLeft_34 : decode cX16_withLeft 34 = .ok (.iload 7, 2) := dk_21 7 (dk_at dksX16_withLeft_1 10 rfl rfl)
theorem dX16_withLeft_36 : decode cX16_withLeft 36 = .ok (.isub, 1) := dk_100 (dk_at dksX16_withLeft_1 12 rfl rfl)
theorem dX16_withLeft_37 : decode cX16_withLeft 37 = .ok (.if_icmp .gt 99, 3) := dk_163 0 99 (dk_at dksX16_withLeft_1 13 rfl rfl)
theorem dX16_withLeft_40 : decode cX16_withLeft 40 = .ok (.iload 5, 2) := dk_21 5 (dk_at dksX16_withLeft_1 16 rfl rfl)
theorem dX16_withLeft_42 : decode cX16_withLeft 42 = .ok (.iload 6, 2) := dk_21 6 (dk_at dksX16_withLeft_1 18 rfl rfl)
theorem dX16_withLeft_44 : decode cX16_withLeft 44 = .ok (.iadd, 1) := dk_96 (dk_at dksX16_withLeft_1 20 rfl rfl)
theorem dX16_withLeft_45 : decode cX16_withLeft 45 = .ok (.iload 7, 2) := dk_21 7 (dk_at dksX16_withLeft_1 21 rfl rfl)
theorem dX16_withLeft_47 : decode cX16_withLeft 47 = .ok (.iadd, 1) := dk_96 (dk_at dksX16_withLeft_1 23 rfl rfl)
theorem dX16_withLeft_48 : decode cX16_withLeft 48 = .ok (.iload 9, 2) := dk_21 9 (dk_at dksX16_withLeft_2 0 rfl rfl)
theorem dX16_withLeft_50 : decode cX16_withLeft 50 = .ok (.isub, 1) := dk_100 (dk_at dksX16_withLeft_2 2 rfl rfl)
theorem dX16_withLeft_51 : decode cX16_withLeft 51 = .ok (.iload 10, 2) := dk_21 10 (dk_at dksX16_withLeft_2 3 rfl rfl)
theorem dX16_withLeft_53 : decode cX16_withLeft 53 = .ok (.isub, 1) := dk_100 (dk_at dksX16_withLeft_2 5 rfl rfl)
theorem dX16_withLeft_54 : decode cX16_withLeft 54 = .ok (.iload 11, 2) := dk_21 11 (dk_at dksX16_withLeft_2 6 rfl rfl)
theorem dX16_withLeft_56 : decode cX16_withLeft 56 = .ok (.isub, 1) := dk_100 (dk_at dksX16_withLeft_2 8 rfl rfl)
theorem dX16_withLeft_57 : decode cX16_withLeft 57 = .ok (.invokestatic 39, 3) := dk_184 0 39 (dk_at dksX16_withLeft_2 9 rfl rfl)
theorem dX16_withLeft_60 : decode cX16_withLeft 60 = .ok (.istore 12, 2) := dk_54 12 (dk_at dksX16_withLeft_2 12 rfl rfl)
theorem dX16_withLeft_62 : decode cX16_withLeft 62 = .ok (.iload 5, 2) := dk_21 5 (dk_at dksX16_withLeft_2 14 rfl rfl)
theorem dX16_withLeft_64 : decode cX16_withLeft 64 = .ok (.iload 6, 2) := dk_21 6 (dk_at dksX16_withLeft_2 16 rfl rfl)
theorem dX16_withLeft_66 : decode cX16_withLeft 66 = .ok (.iadd, 1) := dk_96 (dk_at dksX16_withLeft_2 18 rfl rfl)
theorem dX16_withLeft_67 : decode cX16_withLeft 67 = .ok (.iload 7, 2) := dk_21 7 (dk_at dksX16_withLeft_2 19 rfl rfl)
theorem dX16_withLeft_69 : decode cX16_withLeft 69 = .ok (.iadd, 1) := dk_96 (dk_at dksX16_withLeft_2 21 rfl rfl)
theorem dX16_withLeft_70 : decode cX16_withLeft 70 = .ok (.iload 9, 2) := dk_21 9 (dk_at dksX16_withLeft_2 22 rfl rfl)
theorem dX16_withLeft_72 : decode cX16_withLeft 72 = .ok (.iadd, 1) := dk_96 (dk_at dksX16_withLeft_3 0 rfl rfl)
theorem dX16_withLeft_73 : decode cX16_withLeft 73 = .ok (.iload 10, 2) := dk_21 10 (dk_at dksX16_withLeft_3 1 rfl rfl)
theorem dX16_withLeft_75 : decode cX16_withLeft 75 = .ok (.iadd, 1) := dk_96 (dk_at dksX16_withLeft_3 3 rfl rfl)
theorem dX16_withLeft_76 : decode cX16_withLeft 76 = .ok (.iload 11, 2) := dk_21 11 (dk_at dksX16_withLeft_3 4 rfl rfl)
theorem dX16_withLeft_78 : decode cX16_withLeft 78 = .ok (.iadd, 1) := dk_96 (dk_at dksX16_withLeft_3 6 rfl rfl)
theorem dX16_withLeft_79 : decode cX16_withLeft 79 = .ok (.ifCond .eq 51, 3) := dk_153 0 51 (dk_at dksX16_withLeft_3 7 rfl rfl)
theorem dX16_withLeft_82 : decode cX16_withLeft 82 = .ok (.iload 12, 2) := dk_21 12 (dk_at dksX16_withLeft_3 10 rfl rfl)
theorem dX16_withLeft_84 : decode cX16_withLeft 84 = .ok (.aload_n 0, 1) := dk_42 (dk_at dksX16_withLeft_3 12 rfl rfl)
theorem dX16_withLeft_85 : decode cX16_withLeft 85 = .ok (.getfield 21, 3) := dk_180 0 21 (dk_at dksX16_withLeft_3 13 rfl rfl)
theorem dX16_withLeft_88 : decode cX16_withLeft 88 = .ok (.iload_n 1, 1) := dk_27 (dk_at dksX16_withLeft_3 16 rfl rfl)
theorem dX16_withLeft_89 : decode cX16_withLeft 89 = .ok (.isub, 1) := dk_100 (dk_at dksX16_withLeft_3 17 rfl rfl)
theorem dX16_withLeft_90 : decode cX16_withLeft 90 = .ok (.iload_n 2, 1) := dk_28 (dk_at dksX16_withLeft_3 18 rfl rfl)
theorem dX16_withLeft_91 : decode cX16_withLeft 91 = .ok (.isub, 1) := dk_100 (dk_at dksX16_withLeft_3 19 rfl rfl)
theorem dX16_withLeft_92 : decode cX16_withLeft 92 = .ok (.iload_n 3, 1) := dk_29 (dk_at dksX16_withLeft_3 20 rfl rfl)
theorem dX16_withLeft_93 : decode cX16_withLeft 93 = .ok (.isub, 1) := dk_100 (dk_at dksX16_withLeft_3 21 rfl rfl)
theorem dX16_withLeft_94 : decode cX16_withLeft 94 = .ok (.if_icmp .le 6, 3) := dk_164 0 6 (dk_at dksX16_withLeft_4 0 rfl rfl)
theorem dX16_withLeft_97 : decode cX16_withLeft 97 = .ok (.goto 33, 3) := dk_167 0 33 (dk_at dksX16_withLeft_4 3 rfl rfl)
theorem dX16_withLeft_100 : decode cX16_withLeft 100 = .ok (.iload 8, 2) := dk_21 8 (dk_at dksX16_withLeft_4 6 rfl rfl)
theorem dX16_withLeft_102 : decode cX16_withLeft 102 = .ok (.iconst 1, 1) := dk_4 (dk_at dksX16_withLeft_4 8 rfl rfl)
theorem dX16_withLeft_103 : decode cX16_withLeft 103 = .ok (.aload_n 0, 1) := dk_42 (dk_at dksX16_withLeft_4 9 rfl rfl)
theorem dX16_withLeft_104 : decode cX16_withLeft 104 = .ok (.iload_n 1, 1) := dk_27 (dk_at dksX16_withLeft_4 10 rfl rfl)
theorem dX16_withLeft_105 : decode cX16_withLeft 105 = .ok (.iload_n 2, 1) := dk_28 (dk_at dksX16_withLeft_4 11 rfl rfl)
theorem dX16_withLeft_106 : decode cX16_withLeft 106 = .ok (.iload_n 3, 1) := dk_29 (dk_at dksX16_withLeft_4 12 rfl rfl)
theorem dX16_withLeft_107 : decode cX16_withLeft 107 = .ok (.iload 4, 2) := dk_21 4 (dk_at dksX16_withLeft_4 13 rfl rfl)
theorem dX16_withLeft_109 : decode cX16_withLeft 109 = .ok (.iload 5, 2) := dk_21 5 (dk_at dksX16_withLeft_4 15 rfl rfl)
theorem dX16_withLeft_111 : decode cX16_withLeft 111 = .ok (.iload 6, 2) := dk_21 6 (dk_at dksX16_withLeft_4 17 rfl rfl)
theorem dX16_withLeft_113 : decode cX16_withLeft 113 = .ok (.iload 7, 2) := dk_21 7 (dk_at dksX16_withLeft_4 19 rfl rfl)
theorem dX16_withLeft_115 : decode cX16_withLeft 115 = .ok (.iload 9, 2) := dk_21 9 (dk_at dksX16_withLeft_4 21 rfl rfl)
theorem dX16_withLeft_117 : decode cX16_withLeft 117 = .ok (.iload 10, 2) := dk_21 10 (dk_at dksX16_withLeft_5 0 rfl rfl)
theorem dX16_withLeft_119 : decode cX16_withLeft 119 = .ok (.iload 11, 2) := dk_21 11 (dk_at dksX16_withLeft_5 2 rfl rfl)
theorem dX16_withLeft_121 : decode cX16_withLeft 121 = .ok (.invokevirtual 43, 3) := dk_182 0 43 (dk_at dksX16_withLeft_5 4 rfl rfl)
theorem dX16_withLeft_124 : decode cX16_withLeft 124 = .ok (.iadd, 1) := dk_96 (dk_at dksX16_withLeft_5 7 rfl rfl)
theorem dX16_withLeft_125 : decode cX16_withLeft 125 = .ok (.invokestatic 33, 3) := dk_184 0 33 (dk_at dksX16_withLeft_5 8 rfl rfl)
theorem dX16_withLeft_128 : decode cX16_withLeft 128 = .ok (.istore 8, 2) := dk_54 8 (dk_at dksX16_withLeft_5 11 rfl rfl)
theorem dX16_withLeft_130 : decode cX16_withLeft 130 = .ok (.iinc 11 1, 3) := dk_132 11 1 (dk_at dksX16_withLeft_5 13 rfl rfl)
theorem dX16_withLeft_133 : decode cX16_withLeft 133 = .ok (.goto (-102), 3) := dk_167 255 154 (dk_at dksX16_withLeft_5 16 rfl rfl)
theorem dX16_withLeft_136 : decode cX16_withLeft 136 = .ok (.iinc 10 1, 3) := dk_132 10 1 (dk_at dksX16_withLeft_5 19 rfl rfl)
theorem dX16_withLeft_139 : decode cX16_withLeft 139 = .ok (.goto (-120), 3) := dk_167 255 136 (dk_at dksX16_withLeft_6 0 rfl rfl)
theorem dX16_withLeft_142 : decode cX16_withLeft 142 = .ok (.iinc 9 1, 3) := dk_132 9 1 (dk_at dksX16_withLeft_6 3 rfl rfl)
theorem dX16_withLeft_145 : decode cX16_withLeft 145 = .ok (.goto (-138), 3) := dk_167 255 118 (dk_at dksX16_withLeft_6 6 rfl rfl)
theorem dX16_withLeft_148 : decode cX16_withLeft 148 = .ok (.iload 8, 2) := dk_21 8 (dk_at dksX16_withLeft_6 9 rfl rfl)
theorem dX16_withLeft_150 : decode cX16_withLeft 150 = .ok (.ireturn, 1) := dk_172 (dk_at dksX16_withLeft_6 11 rfl rfl)
abbrev cX16_worst : ByteArray := prog_15_method_5_code
def yX16_worst : MethodName := ⟨RX16, "worst", "(IIIIIIIIII)I"⟩
def dkwX16_worst_6 : List UInt8 := [16, 99, 21, 12, 21, 13, 21, 14, 184, 0, 49, 184, 0, 49, 184, 0, 33, 172]
abbrev dktX16_worst_6 : List UInt8 := dkwX16_worst_6 ++ []
def dkwX16_worst_5 : List UInt8 := [182, 0, 47, 54, 13, 42, 3, 21, 8, 21, 9, 96, 21, 5, 21, 7, 96, 3, 182, 0, 47, 54, 14]
abbrev dktX16_worst_5 : List UInt8 := dkwX16_worst_5 ++ dktX16_worst_6
def dkwX16_worst_4 : List UInt8 := [100, 21, 10, 100, 21, 4, 182, 0, 47, 54, 12, 42, 3, 21, 5, 21, 6, 96, 21, 8, 21, 10, 96, 3]
abbrev dktX16_worst_4 : List UInt8 := dkwX16_worst_4 ++ dktX16_worst_5
def dkwX16_worst_3 : List UInt8 := [160, 0, 6, 16, 99, 172, 42, 27, 21, 5, 100, 21, 8, 100, 28, 21, 6, 100, 21, 9, 100, 29, 21, 7]
abbrev dktX16_worst_3 : List UInt8 := dkwX16_worst_3 ++ dktX16_worst_4
def dkwX16_worst_2 : List UInt8 := [96, 21, 10, 96, 21, 11, 159, 0, 19, 21, 8, 21, 9, 96, 21, 5, 96, 21, 7, 96, 21, 11]
abbrev dktX16_worst_2 : List UInt8 := dkwX16_worst_2 ++ dktX16_worst_3
def dkwX16_worst_1 : List UInt8 := [29, 21, 7, 100, 21, 10, 100, 21, 4, 184, 0, 25, 21, 11, 159, 0, 35, 21, 5, 21, 6, 96, 21, 8]
abbrev dktX16_worst_1 : List UInt8 := dkwX16_worst_1 ++ dktX16_worst_2
def dkwX16_worst_0 : List UInt8 := [27, 28, 29, 21, 4, 184, 0, 25, 54, 11, 27, 21, 5, 100, 21, 8, 100, 28, 21, 6, 100, 21, 9, 100]
abbrev dktX16_worst_0 : List UInt8 := dkwX16_worst_0 ++ dktX16_worst_1
theorem dksX16_worst_0 : cX16_worst.data.toList.drop 0 = dktX16_worst_0 := by decide +kernel
theorem dksX16_worst_1 : cX16_worst.data.toList.drop 24 = dktX16_worst_1 := dk_seg dksX16_worst_0 24 rfl rfl
theorem dksX16_worst_2 : cX16_worst.data.toList.drop 48 = dktX16_worst_2 := dk_seg dksX16_worst_1 24 rfl rfl
theorem dksX16_worst_3 : cX16_worst.data.toList.drop 70 = dktX16_worst_3 := dk_seg dksX16_worst_2 22 rfl rfl
theorem dksX16_worst_4 : cX16_worst.data.toList.drop 94 = dktX16_worst_4 := dk_seg dksX16_worst_3 24 rfl rfl
theorem dksX16_worst_5 : cX16_worst.data.toList.drop 118 = dktX16_worst_5 := dk_seg dksX16_worst_4 24 rfl rfl
theorem dksX16_worst_6 : cX16_worst.data.toList.drop 141 = dktX16_worst_6 := dk_seg dksX16_worst_5 23 rfl rfl
theorem dX16_worst_0 : decode cX16_worst 0 = .ok (.iload_n 1, 1) := dk_27 (dk_at dksX16_worst_0 0 rfl rfl)
theorem dX16_worst_1 : decode cX16_worst 1 = .ok (.iload_n 2, 1) := dk_28 (dk_at dksX16_worst_0 1 rfl rfl)
theorem dX16_worst_2 : decode cX16_worst 2 = .ok (.iload_n 3, 1) := dk_29 (dk_at dksX16_worst_0 2 rfl rfl)
theorem dX16_worst_3 : decode cX16_worst 3 = .ok (.iload 4, 2) := dk_21 4 (dk_at dksX16_worst_0 3 rfl rfl)
theorem dX16_worst_5 : decode cX16_worst 5 = .ok (.invokestatic 25, 3) := dk_184 0 25 (dk_at dksX16_worst_0 5 rfl rfl)
theorem dX16_worst_8 : decode cX16_worst 8 = .ok (.istore 11, 2) := dk_54 11 (dk_at dksX16_worst_0 8 rfl rfl)
theorem dX16_worst_10 : decode cX16_worst 10 = .ok (.iload_n 1, 1) := dk_27 (dk_at dksX16_worst_0 10 rfl rfl)
theorem dX16_worst_11 : decode cX16_worst 11 = .ok (.iload 5, 2) := dk_21 5 (dk_at dksX16_worst_0 11 rfl rfl)
theorem dX16_worst_13 : decode cX16_worst 13 = .ok (.isub, 1) := dk_100 (dk_at dksX16_worst_0 13 rfl rfl)
theorem dX16_worst_14 : decode cX16_worst 14 = .ok (.iload 8, 2) := dk_21 8 (dk_at dksX16_worst_0 14 rfl rfl)
theorem dX16_worst_16 : decode cX16_worst 16 = .ok (.isub, 1) := dk_100 (dk_at dksX16_worst_0 16 rfl rfl)
theorem dX16_worst_17 : decode cX16_worst 17 = .ok (.iload_n 2, 1) := dk_28 (dk_at dksX16_worst_0 17 rfl rfl)
theorem dX16_worst_18 : decode cX16_worst 18 = .ok (.iload 6, 2) := dk_21 6 (dk_at dksX16_worst_0 18 rfl rfl)
theorem dX16_worst_20 : decode cX16_worst 20 = .ok (.isub, 1) := dk_100 (dk_at dksX16_worst_0 20 rfl rfl)
theorem dX16_worst_21 : decode cX16_worst 21 = .ok (.iload 9, 2) := dk_21 9 (dk_at dksX16_worst_0 21 rfl rfl)
theorem dX16_worst_23 : decode cX16_worst 23 = .ok (.isub, 1) := dk_100 (dk_at dksX16_worst_0 23 rfl rfl)
theorem dX16_worst_24 : decode cX16_worst 24 = .ok (.iload_n 3, 1) := dk_29 (dk_at dksX16_worst_1 0 rfl rfl)
theorem dX16_worst_25 : decode cX16_worst 25 = .ok (.iload 7, 2) := dk_21 7 (dk_at dksX16_worst_1 1 rfl rfl)
theorem dX16_worst_27 : decode cX16_worst 27 = .ok (.isub, 1) := dk_100 (dk_at dksX16_worst_1 3 rfl rfl)
theorem dX16_worst_28 : decode cX16_worst 28 = .ok (.iload 10, 2) := dk_21 10 (dk_at dksX16_worst_1 4 rfl rfl)
theorem dX16_worst_30 : decode cX16_worst 30 = .ok (.isub, 1) := dk_100 (dk_at dksX16_worst_1 6 rfl rfl)
theorem dX16_worst_31 : decode cX16_worst 31 = .ok (.iload 4, 2) := dk_21 4 (dk_at dksX16_worst_1 7 rfl rfl)
theorem dX16_worst_33 : decode cX16_worst 33 = .ok (.invokestatic 25, 3) := dk_184 0 25 (dk_at dksX16_worst_1 9 rfl rfl)
theorem dX16_worst_36 : decode cX16_worst 36 = .ok (.iload 11, 2) := dk_21 11 (dk_at dksX16_worst_1 12 rfl rfl)
theorem dX16_worst_38 : decode cX16_worst 38 = .ok (.if_icmp .eq 35, 3) := dk_159 0 35 (dk_at dksX16_worst_1 14 rfl rfl)
theorem dX16_worst_41 : decode cX16_worst 41 = .ok (.iload 5, 2) := dk_21 5 (dk_at dksX16_worst_1 17 rfl rfl)
theorem dX16_worst_43 : decode cX16_worst 43 = .ok (.iload 6, 2) := dk_21 6 (dk_at dksX16_worst_1 19 rfl rfl)
theorem dX16_worst_45 : decode cX16_worst 45 = .ok (.iadd, 1) := dk_96 (dk_at dksX16_worst_1 21 rfl rfl)
theorem dX16_worst_46 : decode cX16_worst 46 = .ok (.iload 8, 2) := dk_21 8 (dk_at dksX16_worst_1 22 rfl rfl)
theorem dX16_worst_48 : decode cX16_worst 48 = .ok (.iadd, 1) := dk_96 (dk_at dksX16_worst_2 0 rfl rfl)
theorem dX16_worst_49 : decode cX16_worst 49 = .ok (.iload 10, 2) := dk_21 10 (dk_at dksX16_worst_2 1 rfl rfl)
theorem dX16_worst_51 : decode cX16_worst 51 = .ok (.iadd, 1) := dk_96 (dk_at dksX16_worst_2 3 rfl rfl)
theorem dX16_worst_52 : decode cX16_worst 52 = .ok (.iload 11, 2) := dk_21 11 (dk_at dksX16_worst_2 4 rfl rfl)
theorem dX16_worst_54 : decode cX16_worst 54 = .ok (.if_icmp .eq 19, 3) := dk_159 0 19 (dk_at dksX16_worst_2 6 rfl rfl)
theorem dX16_worst_57 : decode cX16_worst 57 = .ok (.iload 8, 2) := dk_21 8 (dk_at dksX16_worst_2 9 rfl rfl)
theorem dX16_worst_59 : decode cX16_worst 59 = .ok (.iload 9, 2) := dk_21 9 (dk_at dksX16_worst_2 11 rfl rfl)
theorem dX16_worst_61 : decode cX16_worst 61 = .ok (.iadd, 1) := dk_96 (dk_at dksX16_worst_2 13 rfl rfl)
theorem dX16_worst_62 : decode cX16_worst 62 = .ok (.iload 5, 2) := dk_21 5 (dk_at dksX16_worst_2 14 rfl rfl)
theorem dX16_worst_64 : decode cX16_worst 64 = .ok (.iadd, 1) := dk_96 (dk_at dksX16_worst_2 16 rfl rfl)
theorem dX16_worst_65 : decode cX16_worst 65 = .ok (.iload 7, 2) := dk_21 7 (dk_at dksX16_worst_2 17 rfl rfl)
theorem dX16_worst_67 : decode cX16_worst 67 = .ok (.iadd, 1) := dk_96 (dk_at dksX16_worst_2 19 rfl rfl)
theorem dX16_worst_68 : decode cX16_worst 68 = .ok (.iload 11, 2) := dk_21 11 (dk_at dksX16_worst_2 20 rfl rfl)
theorem dX16_worst_70 : decode cX16_worst 70 = .ok (.if_icmp .ne 6, 3) := dk_160 0 6 (dk_at dksX16_worst_3 0 rfl rfl)
theorem dX16_worst_73 : decode cX16_worst 73 = .ok (.bipush 99, 2) := dk_16 99 (dk_at dksX16_worst_3 3 rfl rfl)
theorem dX16_worst_75 : decode cX16_worst 75 = .ok (.ireturn, 1) := dk_172 (dk_at dksX16_worst_3 5 rfl rfl)
theorem dX16_worst_76 : decode cX16_worst 76 = .ok (.aload_n 0, 1) := dk_42 (dk_at dksX16_worst_3 6 rfl rfl)
theorem dX16_worst_77 : decode cX16_worst 77 = .ok (.iload_n 1, 1) := dk_27 (dk_at dksX16_worst_3 7 rfl rfl)
theorem dX16_worst_78 : decode cX16_worst 78 = .ok (.iload 5, 2) := dk_21 5 (dk_at dksX16_worst_3 8 rfl rfl)
theorem dX16_worst_80 : decode cX16_worst 80 = .ok (.isub, 1) := dk_100 (dk_at dksX16_worst_3 10 rfl rfl)
theorem dX16_worst_81 : decode cX16_worst 81 = .ok (.iload 8, 2) := dk_21 8 (dk_at dksX16_worst_3 11 rfl rfl)
theorem dX16_worst_83 : decode cX16_worst 83 = .ok (.isub, 1) := dk_100 (dk_at dksX16_worst_3 13 rfl rfl)
theorem dX16_worst_84 : decode cX16_worst 84 = .ok (.iload_n 2, 1) := dk_28 (dk_at dksX16_worst_3 14 rfl rfl)
theorem dX16_worst_85 : decode cX16_worst 85 = .ok (.iload 6, 2) := dk_21 6 (dk_at dksX16_worst_3 15 rfl rfl)
theorem dX16_worst_87 : decode cX16_worst 87 = .ok (.isub, 1) := dk_100 (dk_at dksX16_worst_3 17 rfl rfl)
theorem dX16_worst_88 : decode cX16_worst 88 = .ok (.iload 9, 2) := dk_21 9 (dk_at dksX16_worst_3 18 rfl rfl)
theorem dX16_worst_90 : decode cX16_worst 90 = .ok (.isub, 1) := dk_100 (dk_at dksX16_worst_3 20 rfl rfl)
theorem dX16_worst_91 : decode cX16_worst 91 = .ok (.iload_n 3, 1) := dk_29 (dk_at dksX16_worst_3 21 rfl rfl)
theorem dX16_worst_92 : decode cX16_worst 92 = .ok (.iload 7, 2) := dk_21 7 (dk_at dksX16_worst_3 22 rfl rfl)
theorem dX16_worst_94 : decode cX16_worst 94 = .ok (.isub, 1) := dk_100 (dk_at dksX16_worst_4 0 rfl rfl)
theorem dX16_worst_95 : decode cX16_worst 95 = .ok (.iload 10, 2) := dk_21 10 (dk_at dksX16_worst_4 1 rfl rfl)
theorem dX16_worst_97 : decode cX16_worst 97 = .ok (.isub, 1) := dk_100 (dk_at dksX16_worst_4 3 rfl rfl)
theorem dX16_worst_98 : decode cX16_worst 98 = .ok (.iload 4, 2) := dk_21 4 (dk_at dksX16_worst_4 4 rfl rfl)
theorem dX16_worst_100 : decode cX16_worst 100 = .ok (.invokevirtual 47, 3) := dk_182 0 47 (dk_at dksX16_worst_4 6 rfl rfl)
theorem dX16_worst_103 : decode cX16_worst 103 = .ok (.istore 12, 2) := dk_54 12 (dk_at dksX16_worst_4 9 rfl rfl)
theorem dX16_worst_105 : decode cX16_worst 105 = .ok (.aload_n 0, 1) := dk_42 (dk_at dksX16_worst_4 11 rfl rfl)
theorem dX16_worst_106 : decode cX16_worst 106 = .ok (.iconst 0, 1) := dk_3 (dk_at dksX16_worst_4 12 rfl rfl)
theorem dX16_worst_107 : decode cX16_worst 107 = .ok (.iload 5, 2) := dk_21 5 (dk_at dksX16_worst_4 13 rfl rfl)
theorem dX16_worst_109 : decode cX16_worst 109 = .ok (.iload 6, 2) := dk_21 6 (dk_at dksX16_worst_4 15 rfl rfl)
theorem dX16_worst_111 : decode cX16_worst 111 = .ok (.iadd, 1) := dk_96 (dk_at dksX16_worst_4 17 rfl rfl)
theorem dX16_worst_112 : decode cX16_worst 112 = .ok (.iload 8, 2) := dk_21 8 (dk_at dksX16_worst_4 18 rfl rfl)
theorem dX16_worst_114 : decode cX16_worst 114 = .ok (.iload 10, 2) := dk_21 10 (dk_at dksX16_worst_4 20 rfl rfl)
theorem dX16_worst_116 : decode cX16_worst 116 = .ok (.iadd, 1) := dk_96 (dk_at dksX16_worst_4 22 rfl rfl)
theorem dX16_worst_117 : decode cX16_worst 117 = .ok (.iconst 0, 1) := dk_3 (dk_at dksX16_worst_4 23 rfl rfl)
theorem dX16_worst_118 : decode cX16_worst 118 = .ok (.invokevirtual 47, 3) := dk_182 0 47 (dk_at dksX16_worst_5 0 rfl rfl)
theorem dX16_worst_121 : decode cX16_worst 121 = .ok (.istore 13, 2) := dk_54 13 (dk_at dksX16_worst_5 3 rfl rfl)
theorem dX16_worst_123 : decode cX16_worst 123 = .ok (.aload_n 0, 1) := dk_42 (dk_at dksX16_worst_5 5 rfl rfl)
theorem dX16_worst_124 : decode cX16_worst 124 = .ok (.iconst 0, 1) := dk_3 (dk_at dksX16_worst_5 6 rfl rfl)
theorem dX16_worst_125 : decode cX16_worst 125 = .ok (.iload 8, 2) := dk_21 8 (dk_at dksX16_worst_5 7 rfl rfl)
theorem dX16_worst_127 : decode cX16_worst 127 = .ok (.iload 9, 2) := dk_21 9 (dk_at dksX16_worst_5 9 rfl rfl)
theorem dX16_worst_129 : decode cX16_worst 129 = .ok (.iadd, 1) := dk_96 (dk_at dksX16_worst_5 11 rfl rfl)
theorem dX16_worst_130 : decode cX16_worst 130 = .ok (.iload 5, 2) := dk_21 5 (dk_at dksX16_worst_5 12 rfl rfl)
theorem dX16_worst_132 : decode cX16_worst 132 = .ok (.iload 7, 2) := dk_21 7 (dk_at dksX16_worst_5 14 rfl rfl)
theorem dX16_worst_134 : decode cX16_worst 134 = .ok (.iadd, 1) := dk_96 (dk_at dksX16_worst_5 16 rfl rfl)
theorem dX16_worst_135 : decode cX16_worst 135 = .ok (.iconst 0, 1) := dk_3 (dk_at dksX16_worst_5 17 rfl rfl)
theorem dX16_worst_136 : decode cX16_worst 136 = .ok (.invokevirtual 47, 3) := dk_182 0 47 (dk_at dksX16_worst_5 18 rfl rfl)
theorem dX16_worst_139 : decode cX16_worst 139 = .ok (.istore 14, 2) := dk_54 14 (dk_at dksX16_worst_5 21 rfl rfl)
theorem dX16_worst_141 : decode cX16_worst 141 = .ok (.bipush 99, 2) := dk_16 99 (dk_at dksX16_worst_6 0 rfl rfl)
theorem dX16_worst_143 : decode cX16_worst 143 = .ok (.iload 12, 2) := dk_21 12 (dk_at dksX16_worst_6 2 rfl rfl)
theorem dX16_worst_145 : decode cX16_worst 145 = .ok (.iload 13, 2) := dk_21 13 (dk_at dksX16_worst_6 4 rfl rfl)
theorem dX16_worst_147 : decode cX16_worst 147 = .ok (.iload 14, 2) := dk_21 14 (dk_at dksX16_worst_6 6 rfl rfl)
theorem dX16_worst_149 : decode cX16_worst 149 = .ok (.invokestatic 49, 3) := dk_184 0 49 (dk_at dksX16_worst_6 8 rfl rfl)
theorem dX16_worst_152 : decode cX16_worst 152 = .ok (.invokestatic 49, 3) := dk_184 0 49 (dk_at dksX16_worst_6 11 rfl rfl)
theorem dX16_worst_155 : decode cX16_worst 155 = .ok (.invokestatic 33, 3) := dk_184 0 33 (dk_at dksX16_worst_6 14 rfl rfl)
theorem dX16_worst_158 : decode cX16_worst 158 = .ok (.ireturn, 1) := dk_172 (dk_at dksX16_worst_6 17 rfl rfl)
theorem q124 : (Jvm.Cond.initialized "ScaleInspection$Solver") ∈ lw_all := lw_g (lw_at lw_m1 39 rfl) rfl
theorem q874 : (Jvm.Cond.selects "ScaleInspection$Solver" ({ cls := "java/lang/Object", name := "getClass", desc := "()Ljava/lang/Class;" } : Jvm.MethodName) ({ cls := "java/lang/Object", name := "getClass", desc := "()Ljava/lang/Class;" } : Jvm.MethodName)) ∈ lw_all := lw_g (lw_at lw_m4 69 rfl) rfl
theorem q1386 : (Jvm.Cond.instantiable "ScaleInspection$Solver" (4 : Nat)) ∈ lw_all := lw_g (lw_at lw_m6 101 rfl) rfl
theorem q1388 : (Jvm.Cond.instanceMethod ({ cls := "ScaleInspection$Solver", name := "<init>", desc := "(I)V" } : Jvm.MethodName)) ∈ lw_all := lw_g (lw_at lw_m6 103 rfl) rfl
theorem q1389 : (Jvm.Cond.code ({ cls := "ScaleInspection$Solver", name := "<init>", desc := "(I)V" } : Jvm.MethodName) prog_15_method_1_code (3 : Nat) (Option.none : Option Jvm.ClassFile.FieldType)) ∈ lw_all := lw_g (lw_at lw_m6 104 rfl) rfl
theorem q1390 : (Jvm.Cond.methodLink "ScaleInspection$Solver" (3 : Nat) ({ cls := "java/lang/Object", name := "<init>", desc := "()V" } : Jvm.MethodName)) ∈ lw_all := lw_g (lw_at lw_m6 105 rfl) rfl
theorem q1391 : (Jvm.Cond.fieldLink "ScaleInspection$Solver" (21 : Nat) "ScaleInspection$Solver" "count" "I") ∈ lw_all := lw_g (lw_at lw_m6 106 rfl) rfl
theorem q1392 : (Jvm.Cond.fieldLink "ScaleInspection$Solver" (11 : Nat) "ScaleInspection$Solver" "needed" "[I") ∈ lw_all := lw_g (lw_at lw_m6 107 rfl) rfl
theorem q1393 : (Jvm.Cond.fieldLink "ScaleInspection$Solver" (15 : Nat) "ScaleInspection$Solver" "left" "[I") ∈ lw_all := lw_g (lw_at lw_m6 108 rfl) rfl
theorem q1394 : (Jvm.Cond.fieldLink "ScaleInspection$Solver" (18 : Nat) "ScaleInspection$Solver" "right" "[I") ∈ lw_all := lw_g (lw_at lw_m6 109 rfl) rfl
theorem q1395 : (Jvm.Cond.laysFinal "ScaleInspection$Solver" "ScaleInspection$Solver" "count" "I") ∈ lw_all := lw_g (lw_at lw_m6 110 rfl) rfl
theorem q1396 : (Jvm.Cond.soleField "ScaleInspection$Solver" "count") ∈ lw_all := lw_g (lw_at lw_m6 111 rfl) rfl
theorem q1397 : (Jvm.Cond.laysFinal "ScaleInspection$Solver" "ScaleInspection$Solver" "needed" "[I") ∈ lw_all := lw_g (lw_at lw_m6 112 rfl) rfl
theorem q1398 : (Jvm.Cond.soleField "ScaleInspection$Solver" "needed") ∈ lw_all := lw_g (lw_at lw_m6 113 rfl) rfl
theorem q1399 : (Jvm.Cond.laysFinal "ScaleInspection$Solver" "ScaleInspection$Solver" "left" "[I") ∈ lw_all := lw_g (lw_at lw_m6 114 rfl) rfl
theorem q1400 : (Jvm.Cond.soleField "ScaleInspection$Solver" "left") ∈ lw_all := lw_g (lw_at lw_m6 115 rfl) rfl
theorem q1401 : (Jvm.Cond.laysFinal "ScaleInspection$Solver" "ScaleInspection$Solver" "right" "[I") ∈ lw_all := lw_g (lw_at lw_m6 116 rfl) rfl
theorem q1402 : (Jvm.Cond.soleField "ScaleInspection$Solver" "right") ∈ lw_all := lw_g (lw_at lw_m6 117 rfl) rfl
theorem q1403 : (Jvm.Cond.superclass "ScaleInspection$Solver" "java/lang/Object") ∈ lw_all := lw_g (lw_at lw_m6 118 rfl) rfl
theorem q1405 : (Jvm.Cond.instanceMethod ({ cls := "ScaleInspection$Solver", name := "needed", desc := "(IIII)I" } : Jvm.MethodName)) ∈ lw_all := lw_g (lw_at lw_m6 120 rfl) rfl
theorem q1406 : (Jvm.Cond.selects "ScaleInspection$Solver" ({ cls := "ScaleInspection$Solver", name := "needed", desc := "(IIII)I" } : Jvm.MethodName) ({ cls := "ScaleInspection$Solver", name := "needed", desc := "(IIII)I" } : Jvm.MethodName)) ∈ lw_all := lw_g (lw_at lw_m6 121 rfl) rfl
theorem q1407 : (Jvm.Cond.code ({ cls := "ScaleInspection$Solver", name := "needed", desc := "(IIII)I" } : Jvm.MethodName) prog_15_method_3_code (11 : Nat) (Option.some Jvm.ClassFile.FieldType.int)) ∈ lw_all := lw_g (lw_at lw_m6 122 rfl) rfl
theorem q1408 : (Jvm.Cond.methodLink "ScaleInspection$Solver" (25 : Nat) ({ cls := "ScaleInspection$Solver", name := "hypotheses", desc := "(IIII)I" } : Jvm.MethodName)) ∈ lw_all := lw_g (lw_at lw_m6 123 rfl) rfl
theorem q1409 : (Jvm.Cond.static ({ cls := "ScaleInspection$Solver", name := "hypotheses", desc := "(IIII)I" } : Jvm.MethodName)) ∈ lw_all := lw_g (lw_at lw_m6 124 rfl) rfl
theorem q1410 : (Jvm.Cond.code ({ cls := "ScaleInspection$Solver", name := "hypotheses", desc := "(IIII)I" } : Jvm.MethodName) prog_15_method_2_code (4 : Nat) (Option.some Jvm.ClassFile.FieldType.int)) ∈ lw_all := lw_g (lw_at lw_m6 125 rfl) rfl
theorem q1411 : (Jvm.Cond.methodLink "ScaleInspection$Solver" (29 : Nat) ({ cls := "ScaleInspection$Solver", name := "withLeft", desc := "(IIIIIII)I" } : Jvm.MethodName)) ∈ lw_all := lw_g (lw_at lw_m6 126 rfl) rfl
theorem q1412 : (Jvm.Cond.privateMethod ({ cls := "ScaleInspection$Solver", name := "withLeft", desc := "(IIIIIII)I" } : Jvm.MethodName)) ∈ lw_tbl := lw_at lw_m6 127 rfl
theorem q1413 : (Jvm.Cond.instanceMethod ({ cls := "ScaleInspection$Solver", name := "withLeft", desc := "(IIIIIII)I" } : Jvm.MethodName)) ∈ lw_all := lw_g (lw_at lw_m6 128 rfl) rfl
theorem q1414 : (Jvm.Cond.code ({ cls := "ScaleInspection$Solver", name := "withLeft", desc := "(IIIIIII)I" } : Jvm.MethodName) prog_15_method_4_code (13 : Nat) (Option.some Jvm.ClassFile.FieldType.int)) ∈ lw_all := lw_g (lw_at lw_m6 129 rfl) rfl
theorem q1415 : (Jvm.Cond.methodLink "ScaleInspection$Solver" (39 : Nat) ({ cls := "java/lang/Math", name := "abs", desc := "(I)I" } : Jvm.MethodName)) ∈ lw_all := lw_g (lw_at lw_m6 130 rfl) rfl
theorem q1416 : (Jvm.Cond.methodLink "ScaleInspection$Solver" (43 : Nat) ({ cls := "ScaleInspection$Solver", name := "worst", desc := "(IIIIIIIIII)I" } : Jvm.MethodName)) ∈ lw_all := lw_g (lw_at lw_m6 131 rfl) rfl
theorem q1417 : (Jvm.Cond.instanceMethod ({ cls := "ScaleInspection$Solver", name := "worst", desc := "(IIIIIIIIII)I" } : Jvm.MethodName)) ∈ lw_all := lw_g (lw_at lw_m6 132 rfl) rfl
theorem q1418 : (Jvm.Cond.selects "ScaleInspection$Solver" ({ cls := "ScaleInspection$Solver", name := "worst", desc := "(IIIIIIIIII)I" } : Jvm.MethodName) ({ cls := "ScaleInspection$Solver", name := "worst", desc := "(IIIIIIIIII)I" } : Jvm.MethodName)) ∈ lw_all := lw_g (lw_at lw_m6 133 rfl) rfl
theorem q1419 : (Jvm.Cond.code ({ cls := "ScaleInspection$Solver", name := "worst", desc := "(IIIIIIIIII)I" } : Jvm.MethodName) prog_15_method_5_code (15 : Nat) (Option.some Jvm.ClassFile.FieldType.int)) ∈ lw_all := lw_g (lw_at lw_m6 134 rfl) rfl
theorem q1420 : (Jvm.Cond.methodLink "ScaleInspection$Solver" (47 : Nat) ({ cls := "ScaleInspection$Solver", name := "needed", desc := "(IIII)I" } : Jvm.MethodName)) ∈ lw_all := lw_g (lw_at lw_m6 135 rfl) rfl
theorem q1421 : (Jvm.Cond.methodLink "ScaleInspection$Solver" (49 : Nat) ({ cls := "java/lang/Math", name := "max", desc := "(II)I" } : Jvm.MethodName)) ∈ lw_all := lw_g (lw_at lw_m6 136 rfl) rfl
theorem q1422 : (Jvm.Cond.methodLink "ScaleInspection$Solver" (33 : Nat) ({ cls := "java/lang/Math", name := "min", desc := "(II)I" } : Jvm.MethodName)) ∈ lw_all := lw_g (lw_at lw_m6 137 rfl) rfl
theorem q2203 : (Jvm.Cond.castable "ScaleInspection$Solver" "java/lang/Object") ∈ lw_tbl := lw_at lw_m9 198 rfl


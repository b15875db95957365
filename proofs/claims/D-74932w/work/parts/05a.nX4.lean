set_option maxRecDepth 100000
/-! ScaleInspectionModel -/
abbrev cX4_thrown : ByteArray := prog_21_method_1_code
def yX4_thrown : MethodName := ⟨RX4, "thrown", "()I"⟩
theorem dX4_thrown_0 : decode cX4_thrown 0 = .ok (.aload_n 0, 1) := by decide +kernel
theorem dX4_thrown_1 : decode cX4_thrown 1 = .ok (.getfield 1, 3) := by decide +kernel
theorem dX4_thrown_4 : decode cX4_thrown 4 = .ok (.ireturn, 1) := by decide +kernel
abbrev cX4_init : ByteArray := prog_21_method_5_code
def yX4_init : MethodName := ⟨RX4, "<init>", "()V"⟩
def dkwX4_init_9 : List UInt8 := [6, 162, 0, 16, 42, 180, 0, 39, 27, 5, 79, 132, 1, 1, 167, 255, 241, 177]
abbrev dktX4_init_9 : List UInt8 := dkwX4_init_9 ++ []
def dkwX4_init_8 : List UInt8 := [188, 10, 181, 0, 85, 42, 17, 5, 74, 188, 10, 181, 0, 88, 42, 5, 188, 4, 181, 0, 91, 3, 60, 27]
abbrev dktX4_init_8 : List UInt8 := dkwX4_init_8 ++ dktX4_init_9
def dkwX4_init_7 : List UInt8 := [181, 0, 76, 42, 17, 0, 169, 188, 10, 181, 0, 79, 42, 16, 26, 188, 10, 181, 0, 82, 42, 17, 31, 188]
abbrev dktX4_init_7 : List UInt8 := dkwX4_init_7 ++ dktX4_init_8
def dkwX4_init_6 : List UInt8 := [181, 0, 67, 42, 6, 188, 10, 181, 0, 70, 42, 17, 4, 0, 188, 10, 181, 0, 73, 42, 16, 24, 188, 10]
abbrev dktX4_init_6 : List UInt8 := dkwX4_init_6 ++ dktX4_init_7
def dkwX4_init_5 : List UInt8 := [181, 0, 58, 42, 16, 10, 188, 10, 181, 0, 61, 42, 7, 188, 10, 181, 0, 64, 42, 7, 188, 4]
abbrev dktX4_init_5 : List UInt8 := dkwX4_init_5 ++ dktX4_init_6
def dkwX4_init_4 : List UInt8 := [181, 0, 49, 42, 16, 24, 188, 10, 181, 0, 52, 42, 16, 24, 188, 10, 181, 0, 55, 42, 16, 24, 188, 10]
abbrev dktX4_init_4 : List UInt8 := dkwX4_init_4 ++ dktX4_init_5
def dkwX4_init_3 : List UInt8 := [181, 0, 39, 42, 17, 3, 32, 188, 8, 181, 0, 42, 42, 16, 254, 181, 0, 46, 42, 16, 24, 188, 10]
abbrev dktX4_init_3 : List UInt8 := dkwX4_init_3 ++ dktX4_init_4
def dkwX4_init_2 : List UInt8 := [188, 10, 181, 0, 29, 42, 7, 188, 10, 181, 0, 32, 42, 7, 188, 4, 181, 0, 35, 42, 6, 188, 10]
abbrev dktX4_init_2 : List UInt8 := dkwX4_init_2 ++ dktX4_init_3
def dkwX4_init_1 : List UInt8 := [188, 10, 181, 0, 20, 42, 16, 24, 188, 10, 181, 0, 23, 42, 16, 24, 188, 10, 181, 0, 26, 42, 16, 10]
abbrev dktX4_init_1 : List UInt8 := dkwX4_init_1 ++ dktX4_init_2
def dkwX4_init_0 : List UInt8 := [42, 183, 0, 7, 42, 17, 2, 165, 188, 10, 181, 0, 13, 42, 16, 24, 188, 10, 181, 0, 17, 42, 16, 24]
abbrev dktX4_init_0 : List UInt8 := dkwX4_init_0 ++ dktX4_init_1
theorem dksX4_init_0 : cX4_init.data.toList.drop 0 = dktX4_init_0 := by decide +kernel
theorem dksX4_init_1 : cX4_init.data.toList.drop 24 = dktX4_init_1 := dk_seg dksX4_init_0 24 rfl rfl
theorem dksX4_init_2 : cX4_init.data.toList.drop 48 = dktX4_init_2 := dk_seg dksX4_init_1 24 rfl rfl
theorem dksX4_init_3 : cX4_init.data.toList.drop 71 = dktX4_init_3 := dk_seg dksX4_init_2 23 rfl rfl
theorem dksX4_init_4 : cX4_init.data.toList.drop 94 = dktX4_init_4 := dk_seg dksX4_init_3 23 rfl rfl
theorem dksX4_init_5 : cX4_init.data.toList.drop 118 = dktX4_init_5 := dk_seg dksX4_init_4 24 rfl rfl
theorem dksX4_init_6 : cX4_init.data.toList.drop 140 = dktX4_init_6 := dk_seg dksX4_init_5 22 rfl rfl
theorem dksX4_init_7 : cX4_init.data.toList.drop 164 = dktX4_init_7 := dk_seg dksX4_init_6 24 rfl rfl
theorem dksX4_init_8 : cX4_init.data.toList.drop 188 = dktX4_init_8 := dk_seg dksX4_init_7 24 rfl rfl
theorem dksX4_init_9 : cX4_init.data.toList.drop 212 = dktX4_init_9 := dk_seg dksX4_init_8 24 rfl rfl
theorem dX4_init_0 : decode cX4_init 0 = .ok (.aload_n 0, 1) := dk_42 (dk_at dksX4_init_0 0 rfl rfl)
theorem dX4_init_1 : decode cX4_init 1 = .ok (.invokespecial 7, 3) := dk_183 0 7 (dk_at dksX4_init_0 1 rfl rfl)
theorem dX4_init_4 : decode cX4_init 4 = .ok (.aload_n 0, 1) := dk_42 (dk_at dksX4_init_0 4 rfl rfl)
theorem dX4_init_5 : decode cX4_init 5 = .ok (.sipush 677, 3) := dk_17 2 165 (dk_at dksX4_init_0 5 rfl rfl)
theorem dX4_init_8 : decode cX4_init 8 = .ok (.newarray .int, 2) := dk_188_10 (dk_at dksX4_init_0 8 rfl rfl)
theorem dX4_init_10 : decode cX4_init 10 = .ok (.putfield 13, 3) := dk_181 0 13 (dk_at dksX4_init_0 10 rfl rfl)
theorem dX4_init_13 : decode cX4_init 13 = .ok (.aload_n 0, 1) := dk_42 (dk_at dksX4_init_0 13 rfl rfl)
theorem dX4_init_14 : decode cX4_init 14 = .ok (.bipush 24, 2) := dk_16 24 (dk_at dksX4_init_0 14 rfl rfl)
theorem dX4_init_16 : decode cX4_init 16 = .ok (.newarray .int, 2) := dk_188_10 (dk_at dksX4_init_0 16 rfl rfl)
theorem dX4_init_18 : decode cX4_init 18 = .ok (.putfield 17, 3) := dk_181 0 17 (dk_at dksX4_init_0 18 rfl rfl)
theorem dX4_init_21 : decode cX4_init 21 = .ok (.aload_n 0, 1) := dk_42 (dk_at dksX4_init_0 21 rfl rfl)
theorem dX4_init_22 : decode cX4_init 22 = .ok (.bipush 24, 2) := dk_16 24 (dk_at dksX4_init_0 22 rfl rfl)
theorem dX4_init_24 : decode cX4_init 24 = .ok (.newarray .int, 2) := dk_188_10 (dk_at dksX4_init_1 0 rfl rfl)
theorem dX4_init_26 : decode cX4_init 26 = .ok (.putfield 20, 3) := dk_181 0 20 (dk_at dksX4_init_1 2 rfl rfl)
theorem dX4_init_29 : decode cX4_init 29 = .ok (.aload_n 0, 1) := dk_42 (dk_at dksX4_init_1 5 rfl rfl)
theorem dX4_init_30 : decode cX4_init 30 = .ok (.bipush 24, 2) := dk_16 24 (dk_at dksX4_init_1 6 rfl rfl)
theorem dX4_init_32 : decode cX4_init 32 = .ok (.newarray .int, 2) := dk_188_10 (dk_at dksX4_init_1 8 rfl rfl)
theorem dX4_init_34 : decode cX4_init 34 = .ok (.putfield 23, 3) := dk_181 0 23 (dk_at dksX4_init_1 10 rfl rfl)
theorem dX4_init_37 : decode cX4_init 37 = .ok (.aload_n 0, 1) := dk_42 (dk_at dksX4_init_1 13 rfl rfl)
theorem dX4_init_38 : decode cX4_init 38 = .ok (.bipush 24, 2) := dk_16 24 (dk_at dksX4_init_1 14 rfl rfl)
theorem dX4_init_40 : decode cX4_init 40 = .ok (.newarray .int, 2) := dk_188_10 (dk_at dksX4_init_1 16 rfl rfl)
theorem dX4_init_42 : decode cX4_init 42 = .ok (.putfield 26, 3) := dk_181 0 26 (dk_at dksX4_init_1 18 rfl rfl)
theorem dX4_init_45 : decode cX4_init 45 = .ok (.aload_n 0, 1) := dk_42 (dk_at dksX4_init_1 21 rfl rfl)
theorem dX4_init_46 : decode cX4_init 46 = .ok (.bipush 10, 2) := dk_16 10 (dk_at dksX4_init_1 22 rfl rfl)
theorem dX4_init_48 : decode cX4_init 48 = .ok (.newarray .int, 2) := dk_188_10 (dk_at dksX4_init_2 0 rfl rfl)
theorem dX4_init_50 : decode cX4_init 50 = .ok (.putfield 29, 3) := dk_181 0 29 (dk_at dksX4_init_2 2 rfl rfl)
theorem dX4_init_53 : decode cX4_init 53 = .ok (.aload_n 0, 1) := dk_42 (dk_at dksX4_init_2 5 rfl rfl)
theorem dX4_init_54 : decode cX4_init 54 = .ok (.iconst 4, 1) := dk_7 (dk_at dksX4_init_2 6 rfl rfl)
theorem dX4_init_55 : decode cX4_init 55 = .ok (.newarray .int, 2) := dk_188_10 (dk_at dksX4_init_2 7 rfl rfl)
theorem dX4_init_57 : decode cX4_init 57 = .ok (.putfield 32, 3) := dk_181 0 32 (dk_at dksX4_init_2 9 rfl rfl)
theorem dX4_init_60 : decode cX4_init 60 = .ok (.aload_n 0, 1) := dk_42 (dk_at dksX4_init_2 12 rfl rfl)
theorem dX4_init_61 : decode cX4_init 61 = .ok (.iconst 4, 1) := dk_7 (dk_at dksX4_init_2 13 rfl rfl)
theorem dX4_init_62 : decode cX4_init 62 = .ok (.newarray .boolean, 2) := dk_188_4 (dk_at dksX4_init_2 14 rfl rfl)
theorem dX4_init_64 : decode cX4_init 64 = .ok (.putfield 35, 3) := dk_181 0 35 (dk_at dksX4_init_2 16 rfl rfl)
theorem dX4_init_67 : decode cX4_init 67 = .ok (.aload_n 0, 1) := dk_42 (dk_at dksX4_init_2 19 rfl rfl)
theorem dX4_init_68 : decode cX4_init 68 = .ok (.iconst 3, 1) := dk_6 (dk_at dksX4_init_2 20 rfl rfl)
theorem dX4_init_69 : decode cX4_init 69 = .ok (.newarray .int, 2) := dk_188_10 (dk_at dksX4_init_2 21 rfl rfl)
theorem dX4_init_71 : decode cX4_init 71 = .ok (.putfield 39, 3) := dk_181 0 39 (dk_at dksX4_init_3 0 rfl rfl)
theorem dX4_init_74 : decode cX4_init 74 = .ok (.aload_n 0, 1) := dk_42 (dk_at dksX4_init_3 3 rfl rfl)
theorem dX4_init_75 : decode cX4_init 75 = .ok (.sipush 800, 3) := dk_17 3 32 (dk_at dksX4_init_3 4 rfl rfl)
theorem dX4_init_78 : decode cX4_init 78 = .ok (.newarray .byte, 2) := dk_188_8 (dk_at dksX4_init_3 7 rfl rfl)
theorem dX4_init_80 : decode cX4_init 80 = .ok (.putfield 42, 3) := dk_181 0 42 (dk_at dksX4_init_3 9 rfl rfl)
theorem dX4_init_83 : decode cX4_init 83 = .ok (.aload_n 0, 1) := dk_42 (dk_at dksX4_init_3 12 rfl rfl)
theorem dX4_init_84 : decode cX4_init 84 = .ok (.bipush (-2), 2) := dk_16 254 (dk_at dksX4_init_3 13 rfl rfl)
theorem dX4_init_86 : decode cX4_init 86 = .ok (.putfield 46, 3) := dk_181 0 46 (dk_at dksX4_init_3 15 rfl rfl)
theorem dX4_init_89 : decode cX4_init 89 = .ok (.aload_n 0, 1) := dk_42 (dk_at dksX4_init_3 18 rfl rfl)
theorem dX4_init_90 : decode cX4_init 90 = .ok (.bipush 24, 2) := dk_16 24 (dk_at dksX4_init_3 19 rfl rfl)
theorem dX4_init_92 : decode cX4_init 92 = .ok (.newarray .int, 2) := dk_188_10 (dk_at dksX4_init_3 21 rfl rfl)
theorem dX4_init_94 : decode cX4_init 94 = .ok (.putfield 49, 3) := dk_181 0 49 (dk_at dksX4_init_4 0 rfl rfl)
theorem dX4_init_97 : decode cX4_init 97 = .ok (.aload_n 0, 1) := dk_42 (dk_at dksX4_init_4 3 rfl rfl)
theorem dX4_init_98 : decode cX4_init 98 = .ok (.bipush 24, 2) := dk_16 24 (dk_at dksX4_init_4 4 rfl rfl)
theorem dX4_init_100 : decode cX4_init 100 = .ok (.newarray .int, 2) := dk_188_10 (dk_at dksX4_init_4 6 rfl rfl)
theorem dX4_init_102 : decode cX4_init 102 = .ok (.putfield 52, 3) := dk_181 0 52 (dk_at dksX4_init_4 8 rfl rfl)
theorem dX4_init_105 : decode cX4_init 105 = .ok (.aload_n 0, 1) := dk_42 (dk_at dksX4_init_4 11 rfl rfl)
theorem dX4_init_106 : decode cX4_init 106 = .ok (.bipush 24, 2) := dk_16 24 (dk_at dksX4_init_4 12 rfl rfl)
theorem dX4_init_108 : decode cX4_init 108 = .ok (.newarray .int, 2) := dk_188_10 (dk_at dksX4_init_4 14 rfl rfl)
theorem dX4_init_110 : decode cX4_init 110 = .ok (.putfield 55, 3) := dk_181 0 55 (dk_at dksX4_init_4 16 rfl rfl)
theorem dX4_init_113 : decode cX4_init 113 = .ok (.aload_n 0, 1) := dk_42 (dk_at dksX4_init_4 19 rfl rfl)
theorem dX4_init_114 : decode cX4_init 114 = .ok (.bipush 24, 2) := dk_16 24 (dk_at dksX4_init_4 20 rfl rfl)
theorem dX4_init_116 : decode cX4_init 116 = .ok (.newarray .int, 2) := dk_188_10 (dk_at dksX4_init_4 22 rfl rfl)
theorem dX4_init_118 : decode cX4_init 118 = .ok (.putfield 58, 3) := dk_181 0 58 (dk_at dksX4_init_5 0 rfl rfl)
theorem dX4_init_121 : decode cX4_init 121 = .ok (.aload_n 0, 1) := dk_42 (dk_at dksX4_init_5 3 rfl rfl)
theorem dX4_init_122 : decode cX4_init 122 = .ok (.bipush 10, 2) := dk_16 10 (dk_at dksX4_init_5 4 rfl rfl)
theorem dX4_init_124 : decode cX4_init 124 = .ok (.newarray .int, 2) := dk_188_10 (dk_at dksX4_init_5 6 rfl rfl)
theorem dX4_init_126 : decode cX4_init 126 = .ok (.putfield 61, 3) := dk_181 0 61 (dk_at dksX4_init_5 8 rfl rfl)
theorem dX4_init_129 : decode cX4_init 129 = .ok (.aload_n 0, 1) := dk_42 (dk_at dksX4_init_5 11 rfl rfl)
theorem dX4_init_130 : decode cX4_init 130 = .ok (.iconst 4, 1) := dk_7 (dk_at dksX4_init_5 12 rfl rfl)
theorem dX4_init_131 : decode cX4_init 131 = .ok (.newarray .int, 2) := dk_188_10 (dk_at dksX4_init_5 13 rfl rfl)
theorem dX4_init_133 : decode cX4_init 133 = .ok (.putfield 64, 3) := dk_181 0 64 (dk_at dksX4_init_5 15 rfl rfl)
theorem dX4_init_136 : decode cX4_init 136 = .ok (.aload_n 0, 1) := dk_42 (dk_at dksX4_init_5 18 rfl rfl)
theorem dX4_init_137 : decode cX4_init 137 = .ok (.iconst 4, 1) := dk_7 (dk_at dksX4_init_5 19 rfl rfl)
theorem dX4_init_138 : decode cX4_init 138 = .ok (.newarray .boolean, 2) := dk_188_4 (dk_at dksX4_init_5 20 rfl rfl)
theorem dX4_init_140 : decode cX4_init 140 = .ok (.putfield 67, 3) := dk_181 0 67 (dk_at dksX4_init_6 0 rfl rfl)
theorem dX4_init_143 : decode cX4_init 143 = .ok (.aload_n 0, 1) := dk_42 (dk_at dksX4_init_6 3 rfl rfl)
theorem dX4_init_144 : decode cX4_init 144 = .ok (.iconst 3, 1) := dk_6 (dk_at dksX4_init_6 4 rfl rfl)
theorem dX4_init_145 : decode cX4_init 145 = .ok (.newarray .int, 2) := dk_188_10 (dk_at dksX4_init_6 5 rfl rfl)
theorem dX4_init_147 : decode cX4_init 147 = .ok (.putfield 70, 3) := dk_181 0 70 (dk_at dksX4_init_6 7 rfl rfl)
theorem dX4_init_150 : decode cX4_init 150 = .ok (.aload_n 0, 1) := dk_42 (dk_at dksX4_init_6 10 rfl rfl)
theorem dX4_init_151 : decode cX4_init 151 = .ok (.sipush 1024, 3) := dk_17 4 0 (dk_at dksX4_init_6 11 rfl rfl)
theorem dX4_init_154 : decode cX4_init 154 = .ok (.newarray .int, 2) := dk_188_10 (dk_at dksX4_init_6 14 rfl rfl)
theorem dX4_init_156 : decode cX4_init 156 = .ok (.putfield 73, 3) := dk_181 0 73 (dk_at dksX4_init_6 16 rfl rfl)
theorem dX4_init_159 : decode cX4_init 159 = .ok (.aload_n 0, 1) := dk_42 (dk_at dksX4_init_6 19 rfl rfl)
theorem dX4_init_160 : decode cX4_init 160 = .ok (.bipush 24, 2) := dk_16 24 (dk_at dksX4_init_6 20 rfl rfl)
theorem dX4_init_162 : decode cX4_init 162 = .ok (.newarray .int, 2) := dk_188_10 (dk_at dksX4_init_6 22 rfl rfl)
theorem dX4_init_164 : decode cX4_init 164 = .ok (.putfield 76, 3) := dk_181 0 76 (dk_at dksX4_init_7 0 rfl rfl)
theorem dX4_init_167 : decode cX4_init 167 = .ok (.aload_n 0, 1) := dk_42 (dk_at dksX4_init_7 3 rfl rfl)
theorem dX4_init_168 : decode cX4_init 168 = .ok (.sipush 169, 3) := dk_17 0 169 (dk_at dksX4_init_7 4 rfl rfl)
theorem dX4_init_171 : decode cX4_init 171 = .ok (.newarray .int, 2) := dk_188_10 (dk_at dksX4_init_7 7 rfl rfl)
theorem dX4_init_173 : decode cX4_init 173 = .ok (.putfield 79, 3) := dk_181 0 79 (dk_at dksX4_init_7 9 rfl rfl)
theorem dX4_init_176 : decode cX4_init 176 = .ok (.aload_n 0, 1) := dk_42 (dk_at dksX4_init_7 12 rfl rfl)
theorem dX4_init_177 : decode cX4_init 177 = .ok (.bipush 26, 2) := dk_16 26 (dk_at dksX4_init_7 13 rfl rfl)
theorem dX4_init_179 : decode cX4_init 179 = .ok (.newarray .int, 2) := dk_188_10 (dk_at dksX4_init_7 15 rfl rfl)
theorem dX4_init_181 : decode cX4_init 181 = .ok (.putfield 82, 3) := dk_181 0 82 (dk_at dksX4_init_7 17 rfl rfl)
theorem dX4_init_184 : decode cX4_init 184 = .ok (.aload_n 0, 1) := dk_42 (dk_at dksX4_init_7 20 rfl rfl)
theorem dX4_init_185 : decode cX4_init 185 = .ok (.sipush 8124, 3) := dk_17 31 188 (dk_at dksX4_init_7 21 rfl rfl)
theorem dX4_init_188 : decode cX4_init 188 = .ok (.newarray .int, 2) := dk_188_10 (dk_at dksX4_init_8 0 rfl rfl)
theorem dX4_init_190 : decode cX4_init 190 = .ok (.putfield 85, 3) := dk_181 0 85 (dk_at dksX4_init_8 2 rfl rfl)
theorem dX4_init_193 : decode cX4_init 193 = .ok (.aload_n 0, 1) := dk_42 (dk_at dksX4_init_8 5 rfl rfl)
theorem dX4_init_194 : decode cX4_init 194 = .ok (.sipush 1354, 3) := dk_17 5 74 (dk_at dksX4_init_8 6 rfl rfl)
theorem dX4_init_197 : decode cX4_init 197 = .ok (.newarray .int, 2) := dk_188_10 (dk_at dksX4_init_8 9 rfl rfl)
theorem dX4_init_199 : decode cX4_init 199 = .ok (.putfield 88, 3) := dk_181 0 88 (dk_at dksX4_init_8 11 rfl rfl)
theorem dX4_init_202 : decode cX4_init 202 = .ok (.aload_n 0, 1) := dk_42 (dk_at dksX4_init_8 14 rfl rfl)
theorem dX4_init_203 : decode cX4_init 203 = .ok (.iconst 2, 1) := dk_5 (dk_at dksX4_init_8 15 rfl rfl)
theorem dX4_init_204 : decode cX4_init 204 = .ok (.newarray .boolean, 2) := dk_188_4 (dk_at dksX4_init_8 16 rfl rfl)
theorem dX4_init_206 : decode cX4_init 206 = .ok (.putfield 91, 3) := dk_181 0 91 (dk_at dksX4_init_8 18 rfl rfl)
theorem dX4_init_209 : decode cX4_init 209 = .ok (.iconst 0, 1) := dk_3 (dk_at dksX4_init_8 21 rfl rfl)
theorem dX4_init_210 : decode cX4_init 210 = .ok (.istore_n 1, 1) := dk_60 (dk_at dksX4_init_8 22 rfl rfl)
theorem dX4_init_211 : decode cX4_init 211 = .ok (.iload_n 1, 1) := dk_27 (dk_at dksX4_init_8 23 rfl rfl)
theorem dX4_init_212 : decode cX4_init 212 = .ok (.iconst 3, 1) := dk_6 (dk_at dksX4_init_9 0 rfl rfl)
theorem dX4_init_213 : decode cX4_init 213 = .ok (.if_icmp .ge 16, 3) := dk_162 0 16 (dk_at dksX4_init_9 1 rfl rfl)
theorem dX4_init_216 : decode cX4_init 216 = .ok (.aload_n 0, 1) := dk_42 (dk_at dksX4_init_9 4 rfl rfl)
theorem dX4_init_217 : decode cX4_init 217 = .ok (.getfield 39, 3) := dk_180 0 39 (dk_at dksX4_init_9 5 rfl rfl)
theorem dX4_init_220 : decode cX4_init 220 = .ok (.iload_n 1, 1) := dk_27 (dk_at dksX4_init_9 8 rfl rfl)
theorem dX4_init_221 : decode cX4_init 221 = .ok (.iconst 2, 1) := dk_5 (dk_at dksX4_init_9 9 rfl rfl)
theorem dX4_init_222 : decode cX4_init 222 = .ok (.iastore, 1) := dk_79 (dk_at dksX4_init_9 10 rfl rfl)
theorem dX4_init_223 : decode cX4_init 223 = .ok (.iinc 1 1, 3) := dk_132 1 1 (dk_at dksX4_init_9 11 rfl rfl)
theorem dX4_init_226 : decode cX4_init 226 = .ok (.goto (-15), 3) := dk_167 255 241 (dk_at dksX4_init_9 14 rfl rfl)
theorem dX4_init_229 : decode cX4_init 229 = .ok (.return_, 1) := dk_177 (dk_at dksX4_init_9 17 rfl rfl)
abbrev cX4_append : ByteArray := prog_21_method_6_code
def yX4_append : MethodName := ⟨RX4, "append", "(IIIII)I"⟩
def dkwX4_append_2 : List UInt8 := [182, 0, 97, 42, 180, 0, 94, 172]
abbrev dktX4_append_2 : List UInt8 := dkwX4_append_2 ++ []
def dkwX4_append_1 : List UInt8 := [182, 0, 97, 42, 28, 182, 0, 97, 42, 29, 182, 0, 97, 42, 21, 4, 182, 0, 97, 42, 21, 5]
abbrev dktX4_append_1 : List UInt8 := dkwX4_append_1 ++ dktX4_append_2
def dkwX4_append_0 : List UInt8 := [42, 3, 181, 0, 1, 42, 180, 0, 94, 16, 20, 96, 17, 3, 32, 164, 0, 6, 16, 253, 172, 42, 27]
abbrev dktX4_append_0 : List UInt8 := dkwX4_append_0 ++ dktX4_append_1
theorem dksX4_append_0 : cX4_append.data.toList.drop 0 = dktX4_append_0 := by decide +kernel
theorem dksX4_append_1 : cX4_append.data.toList.drop 23 = dktX4_append_1 := dk_seg dksX4_append_0 23 rfl rfl
theorem dksX4_append_2 : cX4_append.data.toList.drop 45 = dktX4_append_2 := dk_seg dksX4_append_1 22 rfl rfl
theorem dX4_append_0 : decode cX4_append 0 = .ok (.aload_n 0, 1) := dk_42 (dk_at dksX4_append_0 0 rfl rfl)
theorem dX4_append_1 : decode cX4_append 1 = .ok (.iconst 0, 1) := dk_3 (dk_at dksX4_append_0 1 rfl rfl)
theorem dX4_append_2 : decode cX4_append 2 = .ok (.putfield 1, 3) := dk_181 0 1 (dk_at dksX4_append_0 2 rfl rfl)
theorem dX4_append_5 : decode cX4_append 5 = .ok (.aload_n 0, 1) := dk_42 (dk_at dksX4_append_0 5 rfl rfl)
theorem dX4_append_6 : decode cX4_append 6 = .ok (.getfield 94, 3) := dk_180 0 94 (dk_at dksX4_append_0 6 rfl rfl)
theorem dX4_append_9 : decode cX4_append 9 = .ok (.bipush 20, 2) := dk_16 20 (dk_at dksX4_append_0 9 rfl rfl)
theorem dX4_append_11 : decode cX4_append 11 = .ok (.iadd, 1) := dk_96 (dk_at dksX4_append_0 11 rfl rfl)
theorem dX4_append_12 : decode cX4_append 12 = .ok (.sipush 800, 3) := dk_17 3 32 (dk_at dksX4_append_0 12 rfl rfl)
theorem dX4_append_15 : decode cX4_append 15 = .ok (.if_icmp .le 6, 3) := dk_164 0 6 (dk_at dksX4_append_0 15 rfl rfl)
theorem dX4_append_18 : decode cX4_append 18 = .ok (.bipush (-3), 2) := dk_16 253 (dk_at dksX4_append_0 18 rfl rfl)
theorem dX4_append_20 : decode cX4_append 20 = .ok (.ireturn, 1) := dk_172 (dk_at dksX4_append_0 20 rfl rfl)
theorem dX4_append_21 : decode cX4_append 21 = .ok (.aload_n 0, 1) := dk_42 (dk_at dksX4_append_0 21 rfl rfl)
theorem dX4_append_22 : decode cX4_append 22 = .ok (.iload_n 1, 1) := dk_27 (dk_at dksX4_append_0 22 rfl rfl)
theorem dX4_append_23 : decode cX4_append 23 = .ok (.invokevirtual 97, 3) := dk_182 0 97 (dk_at dksX4_append_1 0 rfl rfl)
theorem dX4_append_26 : decode cX4_append 26 = .ok (.aload_n 0, 1) := dk_42 (dk_at dksX4_append_1 3 rfl rfl)
theorem dX4_append_27 : decode cX4_append 27 = .ok (.iload_n 2, 1) := dk_28 (dk_at dksX4_append_1 4 rfl rfl)
theorem dX4_append_28 : decode cX4_append 28 = .ok (.invokevirtual 97, 3) := dk_182 0 97 (dk_at dksX4_append_1 5 rfl rfl)
theorem dX4_append_31 : decode cX4_append 31 = .ok (.aload_n 0, 1) := dk_42 (dk_at dksX4_append_1 8 rfl rfl)
theorem dX4_append_32 : decode cX4_append 32 = .ok (.iload_n 3, 1) := dk_29 (dk_at dksX4_append_1 9 rfl rfl)
theorem dX4_append_33 : decode cX4_append 33 = .ok (.invokevirtual 97, 3) := dk_182 0 97 (dk_at dksX4_append_1 10 rfl rfl)
theorem dX4_append_36 : decode cX4_append 36 = .ok (.aload_n 0, 1) := dk_42 (dk_at dksX4_append_1 13 rfl rfl)
theorem dX4_append_37 : decode cX4_append 37 = .ok (.iload 4, 2) := dk_21 4 (dk_at dksX4_append_1 14 rfl rfl)
theorem dX4_append_39 : decode cX4_append 39 = .ok (.invokevirtual 97, 3) := dk_182 0 97 (dk_at dksX4_append_1 16 rfl rfl)
theorem dX4_append_42 : decode cX4_append 42 = .ok (.aload_n 0, 1) := dk_42 (dk_at dksX4_append_1 19 rfl rfl)
theorem dX4_append_43 : decode cX4_append 43 = .ok (.iload 5, 2) := dk_21 5 (dk_at dksX4_append_1 20 rfl rfl)
theorem dX4_append_45 : decode cX4_append 45 = .ok (.invokevirtual 97, 3) := dk_182 0 97 (dk_at dksX4_append_2 0 rfl rfl)
theorem dX4_append_48 : decode cX4_append 48 = .ok (.aload_n 0, 1) := dk_42 (dk_at dksX4_append_2 3 rfl rfl)
theorem dX4_append_49 : decode cX4_append 49 = .ok (.getfield 94, 3) := dk_180 0 94 (dk_at dksX4_append_2 4 rfl rfl)
theorem dX4_append_52 : decode cX4_append 52 = .ok (.ireturn, 1) := dk_172 (dk_at dksX4_append_2 7 rfl rfl)
abbrev cX4_bytesOf : ByteArray := prog_21_method_7_code
def yX4_bytesOf : MethodName := ⟨RX4, "bytesOf", "(I)V"⟩
def dkwX4_bytesOf_1 : List UInt8 := [180, 0, 94, 4, 96, 181, 0, 94, 132, 2, 248, 167, 255, 226, 177]
abbrev dktX4_bytesOf_1 : List UInt8 := dkwX4_bytesOf_1 ++ []
def dkwX4_bytesOf_0 : List UInt8 := [16, 24, 61, 28, 155, 0, 32, 42, 180, 0, 42, 42, 180, 0, 94, 27, 28, 122, 145, 84, 42, 89]
abbrev dktX4_bytesOf_0 : List UInt8 := dkwX4_bytesOf_0 ++ dktX4_bytesOf_1
theorem dksX4_bytesOf_0 : cX4_bytesOf.data.toList.drop 0 = dktX4_bytesOf_0 := by decide +kernel
theorem dksX4_bytesOf_1 : cX4_bytesOf.data.toList.drop 22 = dktX4_bytesOf_1 := dk_seg dksX4_bytesOf_0 22 rfl rfl
theorem dX4_bytesOf_0 : decode cX4_bytesOf 0 = .ok (.bipush 24, 2) := dk_16 24 (dk_at dksX4_bytesOf_0 0 rfl rfl)
theorem dX4_bytesOf_2 : decode cX4_bytesOf 2 = .ok (.istore_n 2, 1) := dk_61 (dk_at dksX4_bytesOf_0 2 rfl rfl)
theorem dX4_bytesOf_3 : decode cX4_bytesOf 3 = .ok (.iload_n 2, 1) := dk_28 (dk_at dksX4_bytesOf_0 3 rfl rfl)
theorem dX4_bytesOf_4 : decode cX4_bytesOf 4 = .ok (.ifCond .lt 32, 3) := dk_155 0 32 (dk_at dksX4_bytesOf_0 4 rfl rfl)
theorem dX4_bytesOf_7 : decode cX4_bytesOf 7 = .ok (.aload_n 0, 1) := dk_42 (dk_at dksX4_bytesOf_0 7 rfl rfl)
theorem dX4_bytesOf_8 : decode cX4_bytesOf 8 = .ok (.getfield 42, 3) := dk_180 0 42 (dk_at dksX4_bytesOf_0 8 rfl rfl)
theorem dX4_bytesOf_11 : decode cX4_bytesOf 11 = .ok (.aload_n 0, 1) := dk_42 (dk_at dksX4_bytesOf_0 11 rfl rfl)
theorem dX4_bytesOf_12 : decode cX4_bytesOf 12 = .ok (.getfield 94, 3) := dk_180 0 94 (dk_at dksX4_bytesOf_0 12 rfl rfl)
theorem dX4_bytesOf_15 : decode cX4_bytesOf 15 = .ok (.iload_n 1, 1) := dk_27 (dk_at dksX4_bytesOf_0 15 rfl rfl)
theorem dX4_bytesOf_16 : decode cX4_bytesOf 16 = .ok (.iload_n 2, 1) := dk_28 (dk_at dksX4_bytesOf_0 16 rfl rfl)
theorem dX4_bytesOf_17 : decode cX4_bytesOf 17 = .ok (.ishr, 1) := dk_122 (dk_at dksX4_bytesOf_0 17 rfl rfl)
theorem dX4_bytesOf_18 : decode cX4_bytesOf 18 = .ok (.i2b, 1) := dk_145 (dk_at dksX4_bytesOf_0 18 rfl rfl)
theorem dX4_bytesOf_19 : decode cX4_bytesOf 19 = .ok (.bastore, 1) := dk_84 (dk_at dksX4_bytesOf_0 19 rfl rfl)
theorem dX4_bytesOf_20 : decode cX4_bytesOf 20 = .ok (.aload_n 0, 1) := dk_42 (dk_at dksX4_bytesOf_0 20 rfl rfl)
theorem dX4_bytesOf_21 : decode cX4_bytesOf 21 = .ok (.dup, 1) := dk_89 (dk_at dksX4_bytesOf_0 21 rfl rfl)
theorem dX4_bytesOf_22 : decode cX4_bytesOf 22 = .ok (.getfield 94, 3) := dk_180 0 94 (dk_at dksX4_bytesOf_1 0 rfl rfl)
theorem dX4_bytesOf_25 : decode cX4_bytesOf 25 = .ok (.iconst 1, 1) := dk_4 (dk_at dksX4_bytesOf_1 3 rfl rfl)
theorem dX4_bytesOf_26 : decode cX4_bytesOf 26 = .ok (.iadd, 1) := dk_96 (dk_at dksX4_bytesOf_1 4 rfl rfl)
theorem dX4_bytesOf_27 : decode cX4_bytesOf 27 = .ok (.putfield 94, 3) := dk_181 0 94 (dk_at dksX4_bytesOf_1 5 rfl rfl)
theorem dX4_bytesOf_30 : decode cX4_bytesOf 30 = .ok (.iinc 2 (-8), 3) := dk_132 2 248 (dk_at dksX4_bytesOf_1 8 rfl rfl)
theorem dX4_bytesOf_33 : decode cX4_bytesOf 33 = .ok (.goto (-30), 3) := dk_167 255 226 (dk_at dksX4_bytesOf_1 11 rfl rfl)
theorem dX4_bytesOf_36 : decode cX4_bytesOf 36 = .ok (.return_, 1) := dk_177 (dk_at dksX4_bytesOf_1 14 rfl rfl)
abbrev cX4_parse : ByteArray := prog_21_method_20_code
def yX4_parse : MethodName := ⟨RX4, "parse", "(I)I"⟩
def dkwX4_parse_5 : List UInt8 := [180, 0, 141, 172, 42, 182, 0, 212, 3, 172]
abbrev dktX4_parse_5 : List UInt8 := dkwX4_parse_5 ++ []
def dkwX4_parse_4 : List UInt8 := [153, 0, 18, 42, 180, 0, 117, 153, 0, 11, 42, 182, 0, 209, 61, 167, 255, 240, 28, 154, 0, 8, 42]
abbrev dktX4_parse_4 : List UInt8 := dkwX4_parse_4 ++ dktX4_parse_5
def dkwX4_parse_3 : List UInt8 := [162, 0, 16, 42, 180, 0, 70, 28, 3, 79, 132, 2, 1, 167, 255, 241, 42, 182, 0, 151, 4, 61, 28]
abbrev dktX4_parse_3 : List UInt8 := dkwX4_parse_3 ++ dktX4_parse_4
def dkwX4_parse_2 : List UInt8 := [42, 3, 181, 0, 154, 42, 3, 181, 0, 161, 42, 3, 181, 0, 169, 42, 3, 181, 0, 180, 3, 61, 28, 6]
abbrev dktX4_parse_2 : List UInt8 := dkwX4_parse_2 ++ dktX4_parse_3
def dkwX4_parse_1 : List UInt8 := [181, 0, 101, 42, 3, 181, 0, 94, 42, 3, 181, 0, 104, 42, 3, 181, 0, 141, 42, 16, 254, 181, 0, 46]
abbrev dktX4_parse_1 : List UInt8 := dkwX4_parse_1 ++ dktX4_parse_2
def dkwX4_parse_0 : List UInt8 := [42, 3, 181, 0, 1, 27, 133, 9, 42, 180, 0, 94, 133, 184, 0, 124, 154, 0, 5, 2, 172, 42, 27]
abbrev dktX4_parse_0 : List UInt8 := dkwX4_parse_0 ++ dktX4_parse_1
theorem dksX4_parse_0 : cX4_parse.data.toList.drop 0 = dktX4_parse_0 := by decide +kernel
theorem dksX4_parse_1 : cX4_parse.data.toList.drop 23 = dktX4_parse_1 := dk_seg dksX4_parse_0 23 rfl rfl
theorem dksX4_parse_2 : cX4_parse.data.toList.drop 47 = dktX4_parse_2 := dk_seg dksX4_parse_1 24 rfl rfl
theorem dksX4_parse_3 : cX4_parse.data.toList.drop 71 = dktX4_parse_3 := dk_seg dksX4_parse_2 24 rfl rfl
theorem dksX4_parse_4 : cX4_parse.data.toList.drop 94 = dktX4_parse_4 := dk_seg dksX4_parse_3 23 rfl rfl
theorem dksX4_parse_5 : cX4_parse.data.toList.drop 117 = dktX4_parse_5 := dk_seg dksX4_parse_4 23 rfl rfl
theorem dX4_parse_0 : decode cX4_parse 0 = .ok (.aload_n 0, 1) := dk_42 (dk_at dksX4_parse_0 0 rfl rfl)
theorem dX4_parse_1 : decode cX4_parse 1 = .ok (.iconst 0, 1) := dk_3 (dk_at dksX4_parse_0 1 rfl rfl)
theorem dX4_parse_2 : decode cX4_parse 2 = .ok (.putfield 1, 3) := dk_181 0 1 (dk_at dksX4_parse_0 2 rfl rfl)
theorem dX4_parse_5 : decode cX4_parse 5 = .ok (.iload_n 1, 1) := dk_27 (dk_at dksX4_parse_0 5 rfl rfl)
theorem dX4_parse_6 : decode cX4_parse 6 = .ok (.i2l, 1) := dk_133 (dk_at dksX4_parse_0 6 rfl rfl)
theorem dX4_parse_7 : decode cX4_parse 7 = .ok (.lconst 0, 1) := dk_9 (dk_at dksX4_parse_0 7 rfl rfl)
theorem dX4_parse_8 : decode cX4_parse 8 = .ok (.aload_n 0, 1) := dk_42 (dk_at dksX4_parse_0 8 rfl rfl)
theorem dX4_parse_9 : decode cX4_parse 9 = .ok (.getfield 94, 3) := dk_180 0 94 (dk_at dksX4_parse_0 9 rfl rfl)
theorem dX4_parse_12 : decode cX4_parse 12 = .ok (.i2l, 1) := dk_133 (dk_at dksX4_parse_0 12 rfl rfl)
theorem dX4_parse_13 : decode cX4_parse 13 = .ok (.invokestatic 124, 3) := dk_184 0 124 (dk_at dksX4_parse_0 13 rfl rfl)
theorem dX4_parse_16 : decode cX4_parse 16 = .ok (.ifCond .ne 5, 3) := dk_154 0 5 (dk_at dksX4_parse_0 16 rfl rfl)
theorem dX4_parse_19 : decode cX4_parse 19 = .ok (.iconst (-1), 1) := dk_2 (dk_at dksX4_parse_0 19 rfl rfl)
theorem dX4_parse_20 : decode cX4_parse 20 = .ok (.ireturn, 1) := dk_172 (dk_at dksX4_parse_0 20 rfl rfl)
theorem dX4_parse_21 : decode cX4_parse 21 = .ok (.aload_n 0, 1) := dk_42 (dk_at dksX4_parse_0 21 rfl rfl)
theorem dX4_parse_22 : decode cX4_parse 22 = .ok (.iload_n 1, 1) := dk_27 (dk_at dksX4_parse_0 22 rfl rfl)
theorem dX4_parse_23 : decode cX4_parse 23 = .ok (.putfield 101, 3) := dk_181 0 101 (dk_at dksX4_parse_1 0 rfl rfl)
theorem dX4_parse_26 : decode cX4_parse 26 = .ok (.aload_n 0, 1) := dk_42 (dk_at dksX4_parse_1 3 rfl rfl)
theorem dX4_parse_27 : decode cX4_parse 27 = .ok (.iconst 0, 1) := dk_3 (dk_at dksX4_parse_1 4 rfl rfl)
theorem dX4_parse_28 : decode cX4_parse 28 = .ok (.putfield 94, 3) := dk_181 0 94 (dk_at dksX4_parse_1 5 rfl rfl)
theorem dX4_parse_31 : decode cX4_parse 31 = .ok (.aload_n 0, 1) := dk_42 (dk_at dksX4_parse_1 8 rfl rfl)
theorem dX4_parse_32 : decode cX4_parse 32 = .ok (.iconst 0, 1) := dk_3 (dk_at dksX4_parse_1 9 rfl rfl)
theorem dX4_parse_33 : decode cX4_parse 33 = .ok (.putfield 104, 3) := dk_181 0 104 (dk_at dksX4_parse_1 10 rfl rfl)
theorem dX4_parse_36 : decode cX4_parse 36 = .ok (.aload_n 0, 1) := dk_42 (dk_at dksX4_parse_1 13 rfl rfl)
theorem dX4_parse_37 : decode cX4_parse 37 = .ok (.iconst 0, 1) := dk_3 (dk_at dksX4_parse_1 14 rfl rfl)
theorem dX4_parse_38 : decode cX4_parse 38 = .ok (.putfield 141, 3) := dk_181 0 141 (dk_at dksX4_parse_1 15 rfl rfl)
theorem dX4_parse_41 : decode cX4_parse 41 = .ok (.aload_n 0, 1) := dk_42 (dk_at dksX4_parse_1 18 rfl rfl)
theorem dX4_parse_42 : decode cX4_parse 42 = .ok (.bipush (-2), 2) := dk_16 254 (dk_at dksX4_parse_1 19 rfl rfl)
theorem dX4_parse_44 : decode cX4_parse 44 = .ok (.putfield 46, 3) := dk_181 0 46 (dk_at dksX4_parse_1 21 rfl rfl)
theorem dX4_parse_47 : decode cX4_parse 47 = .ok (.aload_n 0, 1) := dk_42 (dk_at dksX4_parse_2 0 rfl rfl)
theorem dX4_parse_48 : decode cX4_parse 48 = .ok (.iconst 0, 1) := dk_3 (dk_at dksX4_parse_2 1 rfl rfl)
theorem dX4_parse_49 : decode cX4_parse 49 = .ok (.putfield 154, 3) := dk_181 0 154 (dk_at dksX4_parse_2 2 rfl rfl)
theorem dX4_parse_52 : decode cX4_parse 52 = .ok (.aload_n 0, 1) := dk_42 (dk_at dksX4_parse_2 5 rfl rfl)
theorem dX4_parse_53 : decode cX4_parse 53 = .ok (.iconst 0, 1) := dk_3 (dk_at dksX4_parse_2 6 rfl rfl)
theorem dX4_parse_54 : decode cX4_parse 54 = .ok (.putfield 161, 3) := dk_181 0 161 (dk_at dksX4_parse_2 7 rfl rfl)
theorem dX4_parse_57 : decode cX4_parse 57 = .ok (.aload_n 0, 1) := dk_42 (dk_at dksX4_parse_2 10 rfl rfl)
theorem dX4_parse_58 : decode cX4_parse 58 = .ok (.iconst 0, 1) := dk_3 (dk_at dksX4_parse_2 11 rfl rfl)
theorem dX4_parse_59 : decode cX4_parse 59 = .ok (.putfield 169, 3) := dk_181 0 169 (dk_at dksX4_parse_2 12 rfl rfl)
theorem dX4_parse_62 : decode cX4_parse 62 = .ok (.aload_n 0, 1) := dk_42 (dk_at dksX4_parse_2 15 rfl rfl)
theorem dX4_parse_63 : decode cX4_parse 63 = .ok (.iconst 0, 1) := dk_3 (dk_at dksX4_parse_2 16 rfl rfl)
theorem dX4_parse_64 : decode cX4_parse 64 = .ok (.putfield 180, 3) := dk_181 0 180 (dk_at dksX4_parse_2 17 rfl rfl)
theorem dX4_parse_67 : decode cX4_parse 67 = .ok (.iconst 0, 1) := dk_3 (dk_at dksX4_parse_2 20 rfl rfl)
theorem dX4_parse_68 : decode cX4_parse 68 = .ok (.istore_n 2, 1) := dk_61 (dk_at dksX4_parse_2 21 rfl rfl)
theorem dX4_parse_69 : decode cX4_parse 69 = .ok (.iload_n 2, 1) := dk_28 (dk_at dksX4_parse_2 22 rfl rfl)
theorem dX4_parse_70 : decode cX4_parse 70 = .ok (.iconst 3, 1) := dk_6 (dk_at dksX4_parse_2 23 rfl rfl)
theorem dX4_parse_71 : decode cX4_parse 71 = .ok (.if_icmp .ge 16, 3) := dk_162 0 16 (dk_at dksX4_parse_3 0 rfl rfl)
theorem dX4_parse_74 : decode cX4_parse 74 = .ok (.aload_n 0, 1) := dk_42 (dk_at dksX4_parse_3 3 rfl rfl)
theorem dX4_parse_75 : decode cX4_parse 75 = .ok (.getfield 70, 3) := dk_180 0 70 (dk_at dksX4_parse_3 4 rfl rfl)
theorem dX4_parse_78 : decode cX4_parse 78 = .ok (.iload_n 2, 1) := dk_28 (dk_at dksX4_parse_3 7 rfl rfl)
theorem dX4_parse_79 : decode cX4_parse 79 = .ok (.iconst 0, 1) := dk_3 (dk_at dksX4_parse_3 8 rfl rfl)
theorem dX4_parse_80 : decode cX4_parse 80 = .ok (.iastore, 1) := dk_79 (dk_at dksX4_parse_3 9 rfl rfl)
theorem dX4_parse_81 : decode cX4_parse 81 = .ok (.iinc 2 1, 3) := dk_132 2 1 (dk_at dksX4_parse_3 10 rfl rfl)
theorem dX4_parse_84 : decode cX4_parse 84 = .ok (.goto (-15), 3) := dk_167 255 241 (dk_at dksX4_parse_3 13 rfl rfl)
theorem dX4_parse_87 : decode cX4_parse 87 = .ok (.aload_n 0, 1) := dk_42 (dk_at dksX4_parse_3 16 rfl rfl)
theorem dX4_parse_88 : decode cX4_parse 88 = .ok (.invokevirtual 151, 3) := dk_182 0 151 (dk_at dksX4_parse_3 17 rfl rfl)
theorem dX4_parse_91 : decode cX4_parse 91 = .ok (.iconst 1, 1) := dk_4 (dk_at dksX4_parse_3 20 rfl rfl)
theorem dX4_parse_92 : decode cX4_parse 92 = .ok (.istore_n 2, 1) := dk_61 (dk_at dksX4_parse_3 21 rfl rfl)
theorem dX4_parse_93 : decode cX4_parse 93 = .ok (.iload_n 2, 1) := dk_28 (dk_at dksX4_parse_3 22 rfl rfl)
theorem dX4_parse_94 : decode cX4_parse 94 = .ok (.ifCond .eq 18, 3) := dk_153 0 18 (dk_at dksX4_parse_4 0 rfl rfl)
theorem dX4_parse_97 : decode cX4_parse 97 = .ok (.aload_n 0, 1) := dk_42 (dk_at dksX4_parse_4 3 rfl rfl)
theorem dX4_parse_98 : decode cX4_parse 98 = .ok (.getfield 117, 3) := dk_180 0 117 (dk_at dksX4_parse_4 4 rfl rfl)
theorem dX4_parse_101 : decode cX4_parse 101 = .ok (.ifCond .eq 11, 3) := dk_153 0 11 (dk_at dksX4_parse_4 7 rfl rfl)
theorem dX4_parse_104 : decode cX4_parse 104 = .ok (.aload_n 0, 1) := dk_42 (dk_at dksX4_parse_4 10 rfl rfl)
theorem dX4_parse_105 : decode cX4_parse 105 = .ok (.invokevirtual 209, 3) := dk_182 0 209 (dk_at dksX4_parse_4 11 rfl rfl)
theorem dX4_parse_108 : decode cX4_parse 108 = .ok (.istore_n 2, 1) := dk_61 (dk_at dksX4_parse_4 14 rfl rfl)
theorem dX4_parse_109 : decode cX4_parse 109 = .ok (.goto (-16), 3) := dk_167 255 240 (dk_at dksX4_parse_4 15 rfl rfl)
theorem dX4_parse_112 : decode cX4_parse 112 = .ok (.iload_n 2, 1) := dk_28 (dk_at dksX4_parse_4 18 rfl rfl)
theorem dX4_parse_113 : decode cX4_parse 113 = .ok (.ifCond .ne 8, 3) := dk_154 0 8 (dk_at dksX4_parse_4 19 rfl rfl)
theorem dX4_parse_116 : decode cX4_parse 116 = .ok (.aload_n 0, 1) := dk_42 (dk_at dksX4_parse_4 22 rfl rfl)
theorem dX4_parse_117 : decode cX4_parse 117 = .ok (.getfield 141, 3) := dk_180 0 141 (dk_at dksX4_parse_5 0 rfl rfl)
theorem dX4_parse_120 : decode cX4_parse 120 = .ok (.ireturn, 1) := dk_172 (dk_at dksX4_parse_5 3 rfl rfl)
theorem dX4_parse_121 : decode cX4_parse 121 = .ok (.aload_n 0, 1) := dk_42 (dk_at dksX4_parse_5 4 rfl rfl)
theorem dX4_parse_122 : decode cX4_parse 122 = .ok (.invokevirtual 212, 3) := dk_182 0 212 (dk_at dksX4_parse_5 5 rfl rfl)
theorem dX4_parse_125 : decode cX4_parse 125 = .ok (.iconst 0, 1) := dk_3 (dk_at dksX4_parse_5 8 rfl rfl)
theorem dX4_parse_126 : decode cX4_parse 126 = .ok (.ireturn, 1) := dk_172 (dk_at dksX4_parse_5 9 rfl rfl)
abbrev cX4_within : ByteArray := prog_21_method_2_code
def yX4_within : MethodName := ⟨RX4, "within", "(JJJ)Z"⟩
def dkwX4_within_0 : List UInt8 := [30, 32, 148, 155, 0, 14, 30, 22, 4, 148, 157, 0, 7, 4, 167, 0, 4, 3, 172]
abbrev dktX4_within_0 : List UInt8 := dkwX4_within_0 ++ []
theorem dksX4_within_0 : cX4_within.data.toList.drop 0 = dktX4_within_0 := by decide +kernel
theorem dX4_within_0 : decode cX4_within 0 = .ok (.lload_n 0, 1) := dk_30 (dk_at dksX4_within_0 0 rfl rfl)
theorem dX4_within_1 : decode cX4_within 1 = .ok (.lload_n 2, 1) := dk_32 (dk_at dksX4_within_0 1 rfl rfl)
theorem dX4_within_2 : decode cX4_within 2 = .ok (.lcmp, 1) := dk_148 (dk_at dksX4_within_0 2 rfl rfl)
theorem dX4_within_3 : decode cX4_within 3 = .ok (.ifCond .lt 14, 3) := dk_155 0 14 (dk_at dksX4_within_0 3 rfl rfl)
theorem dX4_within_6 : decode cX4_within 6 = .ok (.lload_n 0, 1) := dk_30 (dk_at dksX4_within_0 6 rfl rfl)
theorem dX4_within_7 : decode cX4_within 7 = .ok (.lload 4, 2) := dk_22 4 (dk_at dksX4_within_0 7 rfl rfl)
theorem dX4_within_9 : decode cX4_within 9 = .ok (.lcmp, 1) := dk_148 (dk_at dksX4_within_0 9 rfl rfl)
theorem dX4_within_10 : decode cX4_within 10 = .ok (.ifCond .gt 7, 3) := dk_157 0 7 (dk_at dksX4_within_0 10 rfl rfl)
theorem dX4_within_13 : decode cX4_within 13 = .ok (.iconst 1, 1) := dk_4 (dk_at dksX4_within_0 13 rfl rfl)
theorem dX4_within_14 : decode cX4_within 14 = .ok (.goto 4, 3) := dk_167 0 4 (dk_at dksX4_within_0 14 rfl rfl)
theorem dX4_within_17 : decode cX4_within 17 = .ok (.iconst 0, 1) := dk_3 (dk_at dksX4_within_0 17 rfl rfl)
theorem dX4_within_18 : decode cX4_within 18 = .ok (.ireturn, 1) := dk_172 (dk_at dksX4_within_0 18 rfl rfl)
abbrev cX4_advance : ByteArray := prog_21_method_9_code
def yX4_advance : MethodName := ⟨RX4, "advance", "()V"⟩
def dkwX4_advance_12 : List UInt8 := [42, 27, 16, 59, 160, 0, 7, 6, 167, 0, 4, 7, 181, 0, 117, 177]
abbrev dktX4_advance_12 : List UInt8 := dkwX4_advance_12 ++ []
def dkwX4_advance_11 : List UInt8 := [164, 0, 7, 7, 167, 0, 4, 5, 181, 0, 117, 167, 0, 28, 42, 89, 180, 0, 104, 4, 96, 181, 0, 104]
abbrev dktX4_advance_11 : List UInt8 := dkwX4_advance_11 ++ dktX4_advance_12
def dkwX4_advance_10 : List UInt8 := [180, 0, 104, 4, 96, 181, 0, 104, 167, 255, 181, 42, 42, 180, 0, 104, 42, 180, 0, 111, 100, 16, 6]
abbrev dktX4_advance_10 : List UInt8 := dkwX4_advance_10 ++ dktX4_advance_11
def dkwX4_advance_9 : List UInt8 := [180, 0, 104, 182, 0, 107, 96, 16, 48, 100, 167, 0, 7, 42, 180, 0, 114, 181, 0, 114, 42, 89]
abbrev dktX4_advance_9 : List UInt8 := dkwX4_advance_9 ++ dktX4_advance_10
def dkwX4_advance_8 : List UInt8 := [180, 0, 104, 42, 180, 0, 111, 100, 16, 6, 162, 0, 25, 16, 10, 42, 180, 0, 114, 104, 42, 42]
abbrev dktX4_advance_8 : List UInt8 := dkwX4_advance_8 ++ dktX4_advance_9
def dkwX4_advance_7 : List UInt8 := [42, 42, 180, 0, 104, 182, 0, 107, 133, 20, 0, 128, 20, 0, 130, 184, 0, 124, 153, 0, 60, 42, 42]
abbrev dktX4_advance_7 : List UInt8 := dkwX4_advance_7 ++ dktX4_advance_8
def dkwX4_advance_6 : List UInt8 := [167, 0, 4, 4, 181, 0, 117, 167, 0, 146, 27, 133, 20, 0, 128, 20, 0, 130, 184, 0, 124, 153, 0, 107]
abbrev dktX4_advance_6 : List UInt8 := dkwX4_advance_6 ++ dktX4_advance_7
def dkwX4_advance_5 : List UInt8 := [4, 96, 181, 0, 104, 167, 255, 225, 42, 42, 180, 0, 104, 42, 180, 0, 111, 100, 16, 8, 164, 0, 7, 7]
abbrev dktX4_advance_5 : List UInt8 := dkwX4_advance_5 ++ dktX4_advance_6
def dkwX4_advance_4 : List UInt8 := [180, 0, 104, 182, 0, 107, 133, 20, 0, 120, 20, 0, 122, 184, 0, 124, 153, 0, 16, 42, 89, 180, 0, 104]
abbrev dktX4_advance_4 : List UInt8 := dkwX4_advance_4 ++ dktX4_advance_5
def dkwX4_advance_3 : List UInt8 := [181, 0, 117, 167, 0, 220, 27, 133, 20, 0, 120, 20, 0, 122, 184, 0, 124, 153, 0, 63, 42, 42]
abbrev dktX4_advance_3 : List UInt8 := dkwX4_advance_3 ++ dktX4_advance_4
def dkwX4_advance_2 : List UInt8 := [42, 3, 181, 0, 114, 42, 42, 180, 0, 104, 182, 0, 107, 60, 27, 16, 254, 160, 0, 11, 42, 3]
abbrev dktX4_advance_2 : List UInt8 := dkwX4_advance_2 ++ dktX4_advance_3
def dkwX4_advance_1 : List UInt8 := [160, 0, 16, 42, 89, 180, 0, 104, 4, 96, 181, 0, 104, 167, 255, 220, 42, 42, 180, 0, 104, 181, 0, 111]
abbrev dktX4_advance_1 : List UInt8 := dkwX4_advance_1 ++ dktX4_advance_2
def dkwX4_advance_0 : List UInt8 := [42, 42, 180, 0, 104, 182, 0, 107, 16, 32, 159, 0, 16, 42, 42, 180, 0, 104, 182, 0, 107, 16, 10]
abbrev dktX4_advance_0 : List UInt8 := dkwX4_advance_0 ++ dktX4_advance_1
theorem dksX4_advance_0 : cX4_advance.data.toList.drop 0 = dktX4_advance_0 := by decide +kernel
theorem dksX4_advance_1 : cX4_advance.data.toList.drop 23 = dktX4_advance_1 := dk_seg dksX4_advance_0 23 rfl rfl
theorem dksX4_advance_2 : cX4_advance.data.toList.drop 47 = dktX4_advance_2 := dk_seg dksX4_advance_1 24 rfl rfl
theorem dksX4_advance_3 : cX4_advance.data.toList.drop 69 = dktX4_advance_3 := dk_seg dksX4_advance_2 22 rfl rfl
theorem dksX4_advance_4 : cX4_advance.data.toList.drop 91 = dktX4_advance_4 := dk_seg dksX4_advance_3 22 rfl rfl
theorem dksX4_advance_5 : cX4_advance.data.toList.drop 115 = dktX4_advance_5 := dk_seg dksX4_advance_4 24 rfl rfl
theorem dksX4_advance_6 : cX4_advance.data.toList.drop 139 = dktX4_advance_6 := dk_seg dksX4_advance_5 24 rfl rfl
theorem dksX4_advance_7 : cX4_advance.data.toList.drop 163 = dktX4_advance_7 := dk_seg dksX4_advance_6 24 rfl rfl
theorem dksX4_advance_8 : cX4_advance.data.toList.drop 186 = dktX4_advance_8 := dk_seg dksX4_advance_7 23 rfl rfl
theorem dksX4_advance_9 : cX4_advance.data.toList.drop 208 = dktX4_advance_9 := dk_seg dksX4_advance_8 22 rfl rfl
theorem dksX4_advance_10 : cX4_advance.data.toList.drop 230 = dktX4_advance_10 := dk_seg dksX4_advance_9 22 rfl rfl
theorem dksX4_advance_11 : cX4_advance.data.toList.drop 253 = dktX4_advance_11 := dk_seg dksX4_advance_10 23 rfl rfl
theorem dksX4_advance_12 : cX4_advance.data.toList.drop 277 = dktX4_advance_12 := dk_seg dksX4_advance_11 24 rfl rfl
theorem dX4_advance_0 : decode cX4_advance 0 = .ok (.aload_n 0, 1) := dk_42 (dk_at dksX4_advance_0 0 rfl rfl)
theorem dX4_advance_1 : decode cX4_advance 1 = .ok (.aload_n 0, 1) := dk_42 (dk_at dksX4_advance_0 1 rfl rfl)
theorem dX4_advance_2 : decode cX4_advance 2 = .ok (.getfield 104, 3) := dk_180 0 104 (dk_at dksX4_advance_0 2 rfl rfl)
theorem dX4_advance_5 : decode cX4_advance 5 = .ok (.invokevirtual 107, 3) := dk_182 0 107 (dk_at dksX4_advance_0 5 rfl rfl)
theorem dX4_advance_8 : decode cX4_advance 8 = .ok (.bipush 32, 2) := dk_16 32 (dk_at dksX4_advance_0 8 rfl rfl)
theorem dX4_advance_10 : decode cX4_advance 10 = .ok (.if_icmp .eq 16, 3) := dk_159 0 16 (dk_at dksX4_advance_0 10 rfl rfl)
theorem dX4_advance_13 : decode cX4_advance 13 = .ok (.aload_n 0, 1) := dk_42 (dk_at dksX4_advance_0 13 rfl rfl)
theorem dX4_advance_14 : decode cX4_advance 14 = .ok (.aload_n 0, 1) := dk_42 (dk_at dksX4_advance_0 14 rfl rfl)
theorem dX4_advance_15 : decode cX4_advance 15 = .ok (.getfield 104, 3) := dk_180 0 104 (dk_at dksX4_advance_0 15 rfl rfl)
theorem dX4_advance_18 : decode cX4_advance 18 = .ok (.invokevirtual 107, 3) := dk_182 0 107 (dk_at dksX4_advance_0 18 rfl rfl)
theorem dX4_advance_21 : decode cX4_advance 21 = .ok (.bipush 10, 2) := dk_16 10 (dk_at dksX4_advance_0 21 rfl rfl)
theorem dX4_advance_23 : decode cX4_advance 23 = .ok (.if_icmp .ne 16, 3) := dk_160 0 16 (dk_at dksX4_advance_1 0 rfl rfl)
theorem dX4_advance_26 : decode cX4_advance 26 = .ok (.aload_n 0, 1) := dk_42 (dk_at dksX4_advance_1 3 rfl rfl)
theorem dX4_advance_27 : decode cX4_advance 27 = .ok (.dup, 1) := dk_89 (dk_at dksX4_advance_1 4 rfl rfl)
theorem dX4_advance_28 : decode cX4_advance 28 = .ok (.getfield 104, 3) := dk_180 0 104 (dk_at dksX4_advance_1 5 rfl rfl)
theorem dX4_advance_31 : decode cX4_advance 31 = .ok (.iconst 1, 1) := dk_4 (dk_at dksX4_advance_1 8 rfl rfl)
theorem dX4_advance_32 : decode cX4_advance 32 = .ok (.iadd, 1) := dk_96 (dk_at dksX4_advance_1 9 rfl rfl)
theorem dX4_advance_33 : decode cX4_advance 33 = .ok (.putfield 104, 3) := dk_181 0 104 (dk_at dksX4_advance_1 10 rfl rfl)
theorem dX4_advance_36 : decode cX4_advance 36 = .ok (.goto (-36), 3) := dk_167 255 220 (dk_at dksX4_advance_1 13 rfl rfl)
theorem dX4_advance_39 : decode cX4_advance 39 = .ok (.aload_n 0, 1) := dk_42 (dk_at dksX4_advance_1 16 rfl rfl)
theorem dX4_advance_40 : decode cX4_advance 40 = .ok (.aload_n 0, 1) := dk_42 (dk_at dksX4_advance_1 17 rfl rfl)
theorem dX4_advance_41 : decode cX4_advance 41 = .ok (.getfield 104, 3) := dk_180 0 104 (dk_at dksX4_advance_1 18 rfl rfl)
theorem dX4_advance_44 : decode cX4_advance 44 = .ok (.putfield 111, 3) := dk_181 0 111 (dk_at dksX4_advance_1 21 rfl rfl)
theorem dX4_advance_47 : decode cX4_advance 47 = .ok (.aload_n 0, 1) := dk_42 (dk_at dksX4_advance_2 0 rfl rfl)
theorem dX4_advance_48 : decode cX4_advance 48 = .ok (.iconst 0, 1) := dk_3 (dk_at dksX4_advance_2 1 rfl rfl)
theorem dX4_advance_49 : decode cX4_advance 49 = .ok (.putfield 114, 3) := dk_181 0 114 (dk_at dksX4_advance_2 2 rfl rfl)
theorem dX4_advance_52 : decode cX4_advance 52 = .ok (.aload_n 0, 1) := dk_42 (dk_at dksX4_advance_2 5 rfl rfl)
theorem dX4_advance_53 : decode cX4_advance 53 = .ok (.aload_n 0, 1) := dk_42 (dk_at dksX4_advance_2 6 rfl rfl)
theorem dX4_advance_54 : decode cX4_advance 54 = .ok (.getfield 104, 3) := dk_180 0 104 (dk_at dksX4_advance_2 7 rfl rfl)
theorem dX4_advance_57 : decode cX4_advance 57 = .ok (.invokevirtual 107, 3) := dk_182 0 107 (dk_at dksX4_advance_2 10 rfl rfl)
theorem dX4_advance_60 : decode cX4_advance 60 = .ok (.istore_n 1, 1) := dk_60 (dk_at dksX4_advance_2 13 rfl rfl)
theorem dX4_advance_61 : decode cX4_advance 61 = .ok (.iload_n 1, 1) := dk_27 (dk_at dksX4_advance_2 14 rfl rfl)
theorem dX4_advance_62 : decode cX4_advance 62 = .ok (.bipush (-2), 2) := dk_16 254 (dk_at dksX4_advance_2 15 rfl rfl)
theorem dX4_advance_64 : decode cX4_advance 64 = .ok (.if_icmp .ne 11, 3) := dk_160 0 11 (dk_at dksX4_advance_2 17 rfl rfl)
theorem dX4_advance_67 : decode cX4_advance 67 = .ok (.aload_n 0, 1) := dk_42 (dk_at dksX4_advance_2 20 rfl rfl)
theorem dX4_advance_68 : decode cX4_advance 68 = .ok (.iconst 0, 1) := dk_3 (dk_at dksX4_advance_2 21 rfl rfl)
theorem dX4_advance_69 : decode cX4_advance 69 = .ok (.putfield 117, 3) := dk_181 0 117 (dk_at dksX4_advance_3 0 rfl rfl)
theorem dX4_advance_72 : decode cX4_advance 72 = .ok (.goto 220, 3) := dk_167 0 220 (dk_at dksX4_advance_3 3 rfl rfl)
theorem dX4_advance_75 : decode cX4_advance 75 = .ok (.iload_n 1, 1) := dk_27 (dk_at dksX4_advance_3 6 rfl rfl)
theorem dX4_advance_76 : decode cX4_advance 76 = .ok (.i2l, 1) := dk_133 (dk_at dksX4_advance_3 7 rfl rfl)
theorem dX4_advance_77 : decode cX4_advance 77 = .ok (.ldc2_w 120, 3) := dk_20 0 120 (dk_at dksX4_advance_3 8 rfl rfl)
theorem dX4_advance_80 : decode cX4_advance 80 = .ok (.ldc2_w 122, 3) := dk_20 0 122 (dk_at dksX4_advance_3 11 rfl rfl)
theorem dX4_advance_83 : decode cX4_advance 83 = .ok (.invokestatic 124, 3) := dk_184 0 124 (dk_at dksX4_advance_3 14 rfl rfl)
theorem dX4_advance_86 : decode cX4_advance 86 = .ok (.ifCond .eq 63, 3) := dk_153 0 63 (dk_at dksX4_advance_3 17 rfl rfl)
theorem dX4_advance_89 : decode cX4_advance 89 = .ok (.aload_n 0, 1) := dk_42 (dk_at dksX4_advance_3 20 rfl rfl)
theorem dX4_advance_90 : decode cX4_advance 90 = .ok (.aload_n 0, 1) := dk_42 (dk_at dksX4_advance_3 21 rfl rfl)
theorem dX4_advance_91 : decode cX4_advance 91 = .ok (.getfield 104, 3) := dk_180 0 104 (dk_at dksX4_advance_4 0 rfl rfl)
theorem dX4_advance_94 : decode cX4_advance 94 = .ok (.invokevirtual 107, 3) := dk_182 0 107 (dk_at dksX4_advance_4 3 rfl rfl)
theorem dX4_advance_97 : decode cX4_advance 97 = .ok (.i2l, 1) := dk_133 (dk_at dksX4_advance_4 6 rfl rfl)
theorem dX4_advance_98 : decode cX4_advance 98 = .ok (.ldc2_w 120, 3) := dk_20 0 120 (dk_at dksX4_advance_4 7 rfl rfl)
theorem dX4_advance_101 : decode cX4_advance 101 = .ok (.ldc2_w 122, 3) := dk_20 0 122 (dk_at dksX4_advance_4 10 rfl rfl)
theorem dX4_advance_104 : decode cX4_advance 104 = .ok (.invokestatic 124, 3) := dk_184 0 124 (dk_at dksX4_advance_4 13 rfl rfl)
theorem dX4_advance_107 : decode cX4_advance 107 = .ok (.ifCond .eq 16, 3) := dk_153 0 16 (dk_at dksX4_advance_4 16 rfl rfl)
theorem dX4_advance_110 : decode cX4_advance 110 = .ok (.aload_n 0, 1) := dk_42 (dk_at dksX4_advance_4 19 rfl rfl)
theorem dX4_advance_111 : decode cX4_advance 111 = .ok (.dup, 1) := dk_89 (dk_at dksX4_advance_4 20 rfl rfl)
theorem dX4_advance_112 : decode cX4_advance 112 = .ok (.getfield 104, 3) := dk_180 0 104 (dk_at dksX4_advance_4 21 rfl rfl)
theorem dX4_advance_115 : decode cX4_advance 115 = .ok (.iconst 1, 1) := dk_4 (dk_at dksX4_advance_5 0 rfl rfl)
theorem dX4_advance_116 : decode cX4_advance 116 = .ok (.iadd, 1) := dk_96 (dk_at dksX4_advance_5 1 rfl rfl)
theorem dX4_advance_117 : decode cX4_advance 117 = .ok (.putfield 104, 3) := dk_181 0 104 (dk_at dksX4_advance_5 2 rfl rfl)
theorem dX4_advance_120 : decode cX4_advance 120 = .ok (.goto (-31), 3) := dk_167 255 225 (dk_at dksX4_advance_5 5 rfl rfl)
theorem dX4_advance_123 : decode cX4_advance 123 = .ok (.aload_n 0, 1) := dk_42 (dk_at dksX4_advance_5 8 rfl rfl)
theorem dX4_advance_124 : decode cX4_advance 124 = .ok (.aload_n 0, 1) := dk_42 (dk_at dksX4_advance_5 9 rfl rfl)
theorem dX4_advance_125 : decode cX4_advance 125 = .ok (.getfield 104, 3) := dk_180 0 104 (dk_at dksX4_advance_5 10 rfl rfl)
theorem dX4_advance_128 : decode cX4_advance 128 = .ok (.aload_n 0, 1) := dk_42 (dk_at dksX4_advance_5 13 rfl rfl)
theorem dX4_advance_129 : decode cX4_advance 129 = .ok (.getfield 111, 3) := dk_180 0 111 (dk_at dksX4_advance_5 14 rfl rfl)
theorem dX4_advance_132 : decode cX4_advance 132 = .ok (.isub, 1) := dk_100 (dk_at dksX4_advance_5 17 rfl rfl)
theorem dX4_advance_133 : decode cX4_advance 133 = .ok (.bipush 8, 2) := dk_16 8 (dk_at dksX4_advance_5 18 rfl rfl)
theorem dX4_advance_135 : decode cX4_advance 135 = .ok (.if_icmp .le 7, 3) := dk_164 0 7 (dk_at dksX4_advance_5 20 rfl rfl)
theorem dX4_advance_138 : decode cX4_advance 138 = .ok (.iconst 4, 1) := dk_7 (dk_at dksX4_advance_5 23 rfl rfl)
theorem dX4_advance_139 : decode cX4_advance 139 = .ok (.goto 4, 3) := dk_167 0 4 (dk_at dksX4_advance_6 0 rfl rfl)
theorem dX4_advance_142 : decode cX4_advance 142 = .ok (.iconst 1, 1) := dk_4 (dk_at dksX4_advance_6 3 rfl rfl)
theorem dX4_advance_143 : decode cX4_advance 143 = .ok (.putfield 117, 3) := dk_181 0 117 (dk_at dksX4_advance_6 4 rfl rfl)
theorem dX4_advance_146 : decode cX4_advance 146 = .ok (.goto 146, 3) := dk_167 0 146 (dk_at dksX4_advance_6 7 rfl rfl)
theorem dX4_advance_149 : decode cX4_advance 149 = .ok (.iload_n 1, 1) := dk_27 (dk_at dksX4_advance_6 10 rfl rfl)
theorem dX4_advance_150 : decode cX4_advance 150 = .ok (.i2l, 1) := dk_133 (dk_at dksX4_advance_6 11 rfl rfl)
theorem dX4_advance_151 : decode cX4_advance 151 = .ok (.ldc2_w 128, 3) := dk_20 0 128 (dk_at dksX4_advance_6 12 rfl rfl)
theorem dX4_advance_154 : decode cX4_advance 154 = .ok (.ldc2_w 130, 3) := dk_20 0 130 (dk_at dksX4_advance_6 15 rfl rfl)
theorem dX4_advance_157 : decode cX4_advance 157 = .ok (.invokestatic 124, 3) := dk_184 0 124 (dk_at dksX4_advance_6 18 rfl rfl)
theorem dX4_advance_160 : decode cX4_advance 160 = .ok (.ifCond .eq 107, 3) := dk_153 0 107 (dk_at dksX4_advance_6 21 rfl rfl)
theorem dX4_advance_163 : decode cX4_advance 163 = .ok (.aload_n 0, 1) := dk_42 (dk_at dksX4_advance_7 0 rfl rfl)
theorem dX4_advance_164 : decode cX4_advance 164 = .ok (.aload_n 0, 1) := dk_42 (dk_at dksX4_advance_7 1 rfl rfl)
theorem dX4_advance_165 : decode cX4_advance 165 = .ok (.getfield 104, 3) := dk_180 0 104 (dk_at dksX4_advance_7 2 rfl rfl)
theorem dX4_advance_168 : decode cX4_advance 168 = .ok (.invokevirtual 107, 3) := dk_182 0 107 (dk_at dksX4_advance_7 5 rfl rfl)
theorem dX4_advance_171 : decode cX4_advance 171 = .ok (.i2l, 1) := dk_133 (dk_at dksX4_advance_7 8 rfl rfl)
theorem dX4_advance_172 : decode cX4_advance 172 = .ok (.ldc2_w 128, 3) := dk_20 0 128 (dk_at dksX4_advance_7 9 rfl rfl)
theorem dX4_advance_175 : decode cX4_advance 175 = .ok (.ldc2_w 130, 3) := dk_20 0 130 (dk_at dksX4_advance_7 12 rfl rfl)
theorem dX4_advance_178 : decode cX4_advance 178 = .ok (.invokestatic 124, 3) := dk_184 0 124 (dk_at dksX4_advance_7 15 rfl rfl)
theorem dX4_advance_181 : decode cX4_advance 181 = .ok (.ifCond .eq 60, 3) := dk_153 0 60 (dk_at dksX4_advance_7 18 rfl rfl)
theorem dX4_advance_184 : decode cX4_advance 184 = .ok (.aload_n 0, 1) := dk_42 (dk_at dksX4_advance_7 21 rfl rfl)
theorem dX4_advance_185 : decode cX4_advance 185 = .ok (.aload_n 0, 1) := dk_42 (dk_at dksX4_advance_7 22 rfl rfl)
theorem dX4_advance_186 : decode cX4_advance 186 = .ok (.getfield 104, 3) := dk_180 0 104 (dk_at dksX4_advance_8 0 rfl rfl)
theorem dX4_advance_189 : decode cX4_advance 189 = .ok (.aload_n 0, 1) := dk_42 (dk_at dksX4_advance_8 3 rfl rfl)
theorem dX4_advance_190 : decode cX4_advance 190 = .ok (.getfield 111, 3) := dk_180 0 111 (dk_at dksX4_advance_8 4 rfl rfl)
theorem dX4_advance_193 : decode cX4_advance 193 = .ok (.isub, 1) := dk_100 (dk_at dksX4_advance_8 7 rfl rfl)
theorem dX4_advance_194 : decode cX4_advance 194 = .ok (.bipush 6, 2) := dk_16 6 (dk_at dksX4_advance_8 8 rfl rfl)
theorem dX4_advance_196 : decode cX4_advance 196 = .ok (.if_icmp .ge 25, 3) := dk_162 0 25 (dk_at dksX4_advance_8 10 rfl rfl)
theorem dX4_advance_199 : decode cX4_advance 199 = .ok (.bipush 10, 2) := dk_16 10 (dk_at dksX4_advance_8 13 rfl rfl)
theorem dX4_advance_201 : decode cX4_advance 201 = .ok (.aload_n 0, 1) := dk_42 (dk_at dksX4_advance_8 15 rfl rfl)
theorem dX4_advance_202 : decode cX4_advance 202 = .ok (.getfield 114, 3) := dk_180 0 114 (dk_at dksX4_advance_8 16 rfl rfl)
theorem dX4_advance_205 : decode cX4_advance 205 = .ok (.imul, 1) := dk_104 (dk_at dksX4_advance_8 19 rfl rfl)
theorem dX4_advance_206 : decode cX4_advance 206 = .ok (.aload_n 0, 1) := dk_42 (dk_at dksX4_advance_8 20 rfl rfl)
theorem dX4_advance_207 : decode cX4_advance 207 = .ok (.aload_n 0, 1) := dk_42 (dk_at dksX4_advance_8 21 rfl rfl)
theorem dX4_advance_208 : decode cX4_advance 208 = .ok (.getfield 104, 3) := dk_180 0 104 (dk_at dksX4_advance_9 0 rfl rfl)
theorem dX4_advance_211 : decode cX4_advance 211 = .ok (.invokevirtual 107, 3) := dk_182 0 107 (dk_at dksX4_advance_9 3 rfl rfl)
theorem dX4_advance_214 : decode cX4_advance 214 = .ok (.iadd, 1) := dk_96 (dk_at dksX4_advance_9 6 rfl rfl)
theorem dX4_advance_215 : decode cX4_advance 215 = .ok (.bipush 48, 2) := dk_16 48 (dk_at dksX4_advance_9 7 rfl rfl)
theorem dX4_advance_217 : decode cX4_advance 217 = .ok (.isub, 1) := dk_100 (dk_at dksX4_advance_9 9 rfl rfl)
theorem dX4_advance_218 : decode cX4_advance 218 = .ok (.goto 7, 3) := dk_167 0 7 (dk_at dksX4_advance_9 10 rfl rfl)
theorem dX4_advance_221 : decode cX4_advance 221 = .ok (.aload_n 0, 1) := dk_42 (dk_at dksX4_advance_9 13 rfl rfl)
theorem dX4_advance_222 : decode cX4_advance 222 = .ok (.getfield 114, 3) := dk_180 0 114 (dk_at dksX4_advance_9 14 rfl rfl)
theorem dX4_advance_225 : decode cX4_advance 225 = .ok (.putfield 114, 3) := dk_181 0 114 (dk_at dksX4_advance_9 17 rfl rfl)
theorem dX4_advance_228 : decode cX4_advance 228 = .ok (.aload_n 0, 1) := dk_42 (dk_at dksX4_advance_9 20 rfl rfl)
theorem dX4_advance_229 : decode cX4_advance 229 = .ok (.dup, 1) := dk_89 (dk_at dksX4_advance_9 21 rfl rfl)
theorem dX4_advance_230 : decode cX4_advance 230 = .ok (.getfield 104, 3) := dk_180 0 104 (dk_at dksX4_advance_10 0 rfl rfl)
theorem dX4_advance_233 : decode cX4_advance 233 = .ok (.iconst 1, 1) := dk_4 (dk_at dksX4_advance_10 3 rfl rfl)
theorem dX4_advance_234 : decode cX4_advance 234 = .ok (.iadd, 1) := dk_96 (dk_at dksX4_advance_10 4 rfl rfl)
theorem dX4_advance_235 : decode cX4_advance 235 = .ok (.putfield 104, 3) := dk_181 0 104 (dk_at dksX4_advance_10 5 rfl rfl)
theorem dX4_advance_238 : decode cX4_advance 238 = .ok (.goto (-75), 3) := dk_167 255 181 (dk_at dksX4_advance_10 8 rfl rfl)
theorem dX4_advance_241 : decode cX4_advance 241 = .ok (.aload_n 0, 1) := dk_42 (dk_at dksX4_advance_10 11 rfl rfl)
theorem dX4_advance_242 : decode cX4_advance 242 = .ok (.aload_n 0, 1) := dk_42 (dk_at dksX4_advance_10 12 rfl rfl)
theorem dX4_advance_243 : decode cX4_advance 243 = .ok (.getfield 104, 3) := dk_180 0 104 (dk_at dksX4_advance_10 13 rfl rfl)
theorem dX4_advance_246 : decode cX4_advance 246 = .ok (.aload_n 0, 1) := dk_42 (dk_at dksX4_advance_10 16 rfl rfl)
theorem dX4_advance_247 : decode cX4_advance 247 = .ok (.getfield 111, 3) := dk_180 0 111 (dk_at dksX4_advance_10 17 rfl rfl)
theorem dX4_advance_250 : decode cX4_advance 250 = .ok (.isub, 1) := dk_100 (dk_at dksX4_advance_10 20 rfl rfl)
theorem dX4_advance_251 : decode cX4_advance 251 = .ok (.bipush 6, 2) := dk_16 6 (dk_at dksX4_advance_10 21 rfl rfl)
theorem dX4_advance_253 : decode cX4_advance 253 = .ok (.if_icmp .le 7, 3) := dk_164 0 7 (dk_at dksX4_advance_11 0 rfl rfl)
theorem dX4_advance_256 : decode cX4_advance 256 = .ok (.iconst 4, 1) := dk_7 (dk_at dksX4_advance_11 3 rfl rfl)
theorem dX4_advance_257 : decode cX4_advance 257 = .ok (.goto 4, 3) := dk_167 0 4 (dk_at dksX4_advance_11 4 rfl rfl)
theorem dX4_advance_260 : decode cX4_advance 260 = .ok (.iconst 2, 1) := dk_5 (dk_at dksX4_advance_11 7 rfl rfl)
theorem dX4_advance_261 : decode cX4_advance 261 = .ok (.putfield 117, 3) := dk_181 0 117 (dk_at dksX4_advance_11 8 rfl rfl)
theorem dX4_advance_264 : decode cX4_advance 264 = .ok (.goto 28, 3) := dk_167 0 28 (dk_at dksX4_advance_11 11 rfl rfl)
theorem dX4_advance_267 : decode cX4_advance 267 = .ok (.aload_n 0, 1) := dk_42 (dk_at dksX4_advance_11 14 rfl rfl)
theorem dX4_advance_268 : decode cX4_advance 268 = .ok (.dup, 1) := dk_89 (dk_at dksX4_advance_11 15 rfl rfl)
theorem dX4_advance_269 : decode cX4_advance 269 = .ok (.getfield 104, 3) := dk_180 0 104 (dk_at dksX4_advance_11 16 rfl rfl)
theorem dX4_advance_272 : decode cX4_advance 272 = .ok (.iconst 1, 1) := dk_4 (dk_at dksX4_advance_11 19 rfl rfl)
theorem dX4_advance_273 : decode cX4_advance 273 = .ok (.iadd, 1) := dk_96 (dk_at dksX4_advance_11 20 rfl rfl)
theorem dX4_advance_274 : decode cX4_advance 274 = .ok (.putfield 104, 3) := dk_181 0 104 (dk_at dksX4_advance_11 21 rfl rfl)
theorem dX4_advance_277 : decode cX4_advance 277 = .ok (.aload_n 0, 1) := dk_42 (dk_at dksX4_advance_12 0 rfl rfl)
theorem dX4_advance_278 : decode cX4_advance 278 = .ok (.iload_n 1, 1) := dk_27 (dk_at dksX4_advance_12 1 rfl rfl)
theorem dX4_advance_279 : decode cX4_advance 279 = .ok (.bipush 59, 2) := dk_16 59 (dk_at dksX4_advance_12 2 rfl rfl)
theorem dX4_advance_281 : decode cX4_advance 281 = .ok (.if_icmp .ne 7, 3) := dk_160 0 7 (dk_at dksX4_advance_12 4 rfl rfl)
theorem dX4_advance_284 : decode cX4_advance 284 = .ok (.iconst 3, 1) := dk_6 (dk_at dksX4_advance_12 7 rfl rfl)
theorem dX4_advance_285 : decode cX4_advance 285 = .ok (.goto 4, 3) := dk_167 0 4 (dk_at dksX4_advance_12 8 rfl rfl)
theorem dX4_advance_288 : decode cX4_advance 288 = .ok (.iconst 4, 1) := dk_7 (dk_at dksX4_advance_12 11 rfl rfl)
theorem dX4_advance_289 : decode cX4_advance 289 = .ok (.putfield 117, 3) := dk_181 0 117 (dk_at dksX4_advance_12 12 rfl rfl)
theorem dX4_advance_292 : decode cX4_advance 292 = .ok (.return_, 1) := dk_177 (dk_at dksX4_advance_12 15 rfl rfl)
abbrev cX4_byteAt : ByteArray := prog_21_method_8_code
def yX4_byteAt : MethodName := ⟨RX4, "byteAt", "(I)I"⟩
def dkwX4_byteAt_0 : List UInt8 := [27, 42, 180, 0, 101, 162, 0, 16, 42, 180, 0, 42, 27, 51, 17, 0, 255, 126, 167, 0, 5, 16, 254, 172]
abbrev dktX4_byteAt_0 : List UInt8 := dkwX4_byteAt_0 ++ []
theorem dksX4_byteAt_0 : cX4_byteAt.data.toList.drop 0 = dktX4_byteAt_0 := by decide +kernel
theorem dX4_byteAt_0 : decode cX4_byteAt 0 = .ok (.iload_n 1, 1) := dk_27 (dk_at dksX4_byteAt_0 0 rfl rfl)
theorem dX4_byteAt_1 : decode cX4_byteAt 1 = .ok (.aload_n 0, 1) := dk_42 (dk_at dksX4_byteAt_0 1 rfl rfl)
theorem dX4_byteAt_2 : decode cX4_byteAt 2 = .ok (.getfield 101, 3) := dk_180 0 101 (dk_at dksX4_byteAt_0 2 rfl rfl)
theorem dX4_byteAt_5 : decode cX4_byteAt 5 = .ok (.if_icmp .ge 16, 3) := dk_162 0 16 (dk_at dksX4_byteAt_0 5 rfl rfl)
theorem dX4_byteAt_8 : decode cX4_byteAt 8 = .ok (.aload_n 0, 1) := dk_42 (dk_at dksX4_byteAt_0 8 rfl rfl)
theorem dX4_byteAt_9 : decode cX4_byteAt 9 = .ok (.getfield 42, 3) := dk_180 0 42 (dk_at dksX4_byteAt_0 9 rfl rfl)
theorem dX4_byteAt_12 : decode cX4_byteAt 12 = .ok (.iload_n 1, 1) := dk_27 (dk_at dksX4_byteAt_0 12 rfl rfl)
theorem dX4_byteAt_13 : decode cX4_byteAt 13 = .ok (.baload, 1) := dk_51 (dk_at dksX4_byteAt_0 13 rfl rfl)
theorem dX4_byteAt_14 : decode cX4_byteAt 14 = .ok (.sipush 255, 3) := dk_17 0 255 (dk_at dksX4_byteAt_0 14 rfl rfl)
theorem dX4_byteAt_17 : decode cX4_byteAt 17 = .ok (.iand, 1) := dk_126 (dk_at dksX4_byteAt_0 17 rfl rfl)
theorem dX4_byteAt_18 : decode cX4_byteAt 18 = .ok (.goto 5, 3) := dk_167 0 5 (dk_at dksX4_byteAt_0 18 rfl rfl)
theorem dX4_byteAt_21 : decode cX4_byteAt 21 = .ok (.bipush (-2), 2) := dk_16 254 (dk_at dksX4_byteAt_0 21 rfl rfl)
theorem dX4_byteAt_23 : decode cX4_byteAt 23 = .ok (.ireturn, 1) := dk_172 (dk_at dksX4_byteAt_0 23 rfl rfl)
abbrev cX4_statement : ByteArray := prog_21_method_19_code
def yX4_statement : MethodName := ⟨RX4, "statement", "()Z"⟩
def dkwX4_statement_4 : List UInt8 := [172, 42, 180, 0, 117, 6, 159, 0, 9, 42, 4, 182, 0, 144, 172, 42, 182, 0, 151, 4, 172]
abbrev dktX4_statement_4 : List UInt8 := dkwX4_statement_4 ++ []
def dkwX4_statement_3 : List UInt8 := [182, 0, 174, 153, 0, 10, 42, 182, 0, 206, 167, 0, 8, 42, 4, 182, 0, 144, 60, 27, 154, 0, 5, 3]
abbrev dktX4_statement_3 : List UInt8 := dkwX4_statement_3 ++ dktX4_statement_4
def dkwX4_statement_2 : List UInt8 := [167, 0, 40, 42, 18, 200, 182, 0, 174, 153, 0, 10, 42, 182, 0, 202, 167, 0, 24, 42, 18, 205]
abbrev dktX4_statement_2 : List UInt8 := dkwX4_statement_2 ++ dktX4_statement_3
def dkwX4_statement_1 : List UInt8 := [153, 0, 10, 42, 182, 0, 193, 167, 0, 56, 42, 18, 196, 182, 0, 174, 153, 0, 10, 42, 182, 0, 197]
abbrev dktX4_statement_1 : List UInt8 := dkwX4_statement_1 ++ dktX4_statement_2
def dkwX4_statement_0 : List UInt8 := [42, 18, 185, 182, 0, 174, 153, 0, 10, 42, 182, 0, 187, 167, 0, 72, 42, 18, 191, 182, 0, 174]
abbrev dktX4_statement_0 : List UInt8 := dkwX4_statement_0 ++ dktX4_statement_1
theorem dksX4_statement_0 : cX4_statement.data.toList.drop 0 = dktX4_statement_0 := by decide +kernel
theorem dksX4_statement_1 : cX4_statement.data.toList.drop 22 = dktX4_statement_1 := dk_seg dksX4_statement_0 22 rfl rfl
theorem dksX4_statement_2 : cX4_statement.data.toList.drop 45 = dktX4_statement_2 := dk_seg dksX4_statement_1 23 rfl rfl
theorem dksX4_statement_3 : cX4_statement.data.toList.drop 67 = dktX4_statement_3 := dk_seg dksX4_statement_2 22 rfl rfl
theorem dksX4_statement_4 : cX4_statement.data.toList.drop 91 = dktX4_statement_4 := dk_seg dksX4_statement_3 24 rfl rfl
theorem dX4_statement_0 : decode cX4_statement 0 = .ok (.aload_n 0, 1) := dk_42 (dk_at dksX4_statement_0 0 rfl rfl)
theorem dX4_statement_1 : decode cX4_statement 1 = .ok (.ldc 185, 2) := dk_18 185 (dk_at dksX4_statement_0 1 rfl rfl)
theorem dX4_statement_3 : decode cX4_statement 3 = .ok (.invokevirtual 174, 3) := dk_182 0 174 (dk_at dksX4_statement_0 3 rfl rfl)
theorem dX4_statement_6 : decode cX4_statement 6 = .ok (.ifCond .eq 10, 3) := dk_153 0 10 (dk_at dksX4_statement_0 6 rfl rfl)
theorem dX4_statement_9 : decode cX4_statement 9 = .ok (.aload_n 0, 1) := dk_42 (dk_at dksX4_statement_0 9 rfl rfl)
theorem dX4_statement_10 : decode cX4_statement 10 = .ok (.invokevirtual 187, 3) := dk_182 0 187 (dk_at dksX4_statement_0 10 rfl rfl)
theorem dX4_statement_13 : decode cX4_statement 13 = .ok (.goto 72, 3) := dk_167 0 72 (dk_at dksX4_statement_0 13 rfl rfl)
theorem dX4_statement_16 : decode cX4_statement 16 = .ok (.aload_n 0, 1) := dk_42 (dk_at dksX4_statement_0 16 rfl rfl)
theorem dX4_statement_17 : decode cX4_statement 17 = .ok (.ldc 191, 2) := dk_18 191 (dk_at dksX4_statement_0 17 rfl rfl)
theorem dX4_statement_19 : decode cX4_statement 19 = .ok (.invokevirtual 174, 3) := dk_182 0 174 (dk_at dksX4_statement_0 19 rfl rfl)
theorem dX4_statement_22 : decode cX4_statement 22 = .ok (.ifCond .eq 10, 3) := dk_153 0 10 (dk_at dksX4_statement_1 0 rfl rfl)
theorem dX4_statement_25 : decode cX4_statement 25 = .ok (.aload_n 0, 1) := dk_42 (dk_at dksX4_statement_1 3 rfl rfl)
theorem dX4_statement_26 : decode cX4_statement 26 = .ok (.invokevirtual 193, 3) := dk_182 0 193 (dk_at dksX4_statement_1 4 rfl rfl)
theorem dX4_statement_29 : decode cX4_statement 29 = .ok (.goto 56, 3) := dk_167 0 56 (dk_at dksX4_statement_1 7 rfl rfl)
theorem dX4_statement_32 : decode cX4_statement 32 = .ok (.aload_n 0, 1) := dk_42 (dk_at dksX4_statement_1 10 rfl rfl)
theorem dX4_statement_33 : decode cX4_statement 33 = .ok (.ldc 196, 2) := dk_18 196 (dk_at dksX4_statement_1 11 rfl rfl)
theorem dX4_statement_35 : decode cX4_statement 35 = .ok (.invokevirtual 174, 3) := dk_182 0 174 (dk_at dksX4_statement_1 13 rfl rfl)
theorem dX4_statement_38 : decode cX4_statement 38 = .ok (.ifCond .eq 10, 3) := dk_153 0 10 (dk_at dksX4_statement_1 16 rfl rfl)
theorem dX4_statement_41 : decode cX4_statement 41 = .ok (.aload_n 0, 1) := dk_42 (dk_at dksX4_statement_1 19 rfl rfl)
theorem dX4_statement_42 : decode cX4_statement 42 = .ok (.invokevirtual 197, 3) := dk_182 0 197 (dk_at dksX4_statement_1 20 rfl rfl)
theorem dX4_statement_45 : decode cX4_statement 45 = .ok (.goto 40, 3) := dk_167 0 40 (dk_at dksX4_statement_2 0 rfl rfl)
theorem dX4_statement_48 : decode cX4_statement 48 = .ok (.aload_n 0, 1) := dk_42 (dk_at dksX4_statement_2 3 rfl rfl)
theorem dX4_statement_49 : decode cX4_statement 49 = .ok (.ldc 200, 2) := dk_18 200 (dk_at dksX4_statement_2 4 rfl rfl)
theorem dX4_statement_51 : decode cX4_statement 51 = .ok (.invokevirtual 174, 3) := dk_182 0 174 (dk_at dksX4_statement_2 6 rfl rfl)
theorem dX4_statement_54 : decode cX4_statement 54 = .ok (.ifCond .eq 10, 3) := dk_153 0 10 (dk_at dksX4_statement_2 9 rfl rfl)
theorem dX4_statement_57 : decode cX4_statement 57 = .ok (.aload_n 0, 1) := dk_42 (dk_at dksX4_statement_2 12 rfl rfl)
theorem dX4_statement_58 : decode cX4_statement 58 = .ok (.invokevirtual 202, 3) := dk_182 0 202 (dk_at dksX4_statement_2 13 rfl rfl)
theorem dX4_statement_61 : decode cX4_statement 61 = .ok (.goto 24, 3) := dk_167 0 24 (dk_at dksX4_statement_2 16 rfl rfl)
theorem dX4_statement_64 : decode cX4_statement 64 = .ok (.aload_n 0, 1) := dk_42 (dk_at dksX4_statement_2 19 rfl rfl)
theorem dX4_statement_65 : decode cX4_statement 65 = .ok (.ldc 205, 2) := dk_18 205 (dk_at dksX4_statement_2 20 rfl rfl)
theorem dX4_statement_67 : decode cX4_statement 67 = .ok (.invokevirtual 174, 3) := dk_182 0 174 (dk_at dksX4_statement_3 0 rfl rfl)
theorem dX4_statement_70 : decode cX4_statement 70 = .ok (.ifCond .eq 10, 3) := dk_153 0 10 (dk_at dksX4_statement_3 3 rfl rfl)
theorem dX4_statement_73 : decode cX4_statement 73 = .ok (.aload_n 0, 1) := dk_42 (dk_at dksX4_statement_3 6 rfl rfl)
theorem dX4_statement_74 : decode cX4_statement 74 = .ok (.invokevirtual 206, 3) := dk_182 0 206 (dk_at dksX4_statement_3 7 rfl rfl)
theorem dX4_statement_77 : decode cX4_statement 77 = .ok (.goto 8, 3) := dk_167 0 8 (dk_at dksX4_statement_3 10 rfl rfl)
theorem dX4_statement_80 : decode cX4_statement 80 = .ok (.aload_n 0, 1) := dk_42 (dk_at dksX4_statement_3 13 rfl rfl)
theorem dX4_statement_81 : decode cX4_statement 81 = .ok (.iconst 1, 1) := dk_4 (dk_at dksX4_statement_3 14 rfl rfl)
theorem dX4_statement_82 : decode cX4_statement 82 = .ok (.invokevirtual 144, 3) := dk_182 0 144 (dk_at dksX4_statement_3 15 rfl rfl)
theorem dX4_statement_85 : decode cX4_statement 85 = .ok (.istore_n 1, 1) := dk_60 (dk_at dksX4_statement_3 18 rfl rfl)
theorem dX4_statement_86 : decode cX4_statement 86 = .ok (.iload_n 1, 1) := dk_27 (dk_at dksX4_statement_3 19 rfl rfl)
theorem dX4_statement_87 : decode cX4_statement 87 = .ok (.ifCond .ne 5, 3) := dk_154 0 5 (dk_at dksX4_statement_3 20 rfl rfl)
theorem dX4_statement_90 : decode cX4_statement 90 = .ok (.iconst 0, 1) := dk_3 (dk_at dksX4_statement_3 23 rfl rfl)
theorem dX4_statement_91 : decode cX4_statement 91 = .ok (.ireturn, 1) := dk_172 (dk_at dksX4_statement_4 0 rfl rfl)
theorem dX4_statement_92 : decode cX4_statement 92 = .ok (.aload_n 0, 1) := dk_42 (dk_at dksX4_statement_4 1 rfl rfl)
theorem dX4_statement_93 : decode cX4_statement 93 = .ok (.getfield 117, 3) := dk_180 0 117 (dk_at dksX4_statement_4 2 rfl rfl)
theorem dX4_statement_96 : decode cX4_statement 96 = .ok (.iconst 3, 1) := dk_6 (dk_at dksX4_statement_4 5 rfl rfl)
theorem dX4_statement_97 : decode cX4_statement 97 = .ok (.if_icmp .eq 9, 3) := dk_159 0 9 (dk_at dksX4_statement_4 6 rfl rfl)
theorem dX4_statement_100 : decode cX4_statement 100 = .ok (.aload_n 0, 1) := dk_42 (dk_at dksX4_statement_4 9 rfl rfl)
theorem dX4_statement_101 : decode cX4_statement 101 = .ok (.iconst 1, 1) := dk_4 (dk_at dksX4_statement_4 10 rfl rfl)
theorem dX4_statement_102 : decode cX4_statement 102 = .ok (.invokevirtual 144, 3) := dk_182 0 144 (dk_at dksX4_statement_4 11 rfl rfl)
theorem dX4_statement_105 : decode cX4_statement 105 = .ok (.ireturn, 1) := dk_172 (dk_at dksX4_statement_4 14 rfl rfl)
theorem dX4_statement_106 : decode cX4_statement 106 = .ok (.aload_n 0, 1) := dk_42 (dk_at dksX4_statement_4 15 rfl rfl)
theorem dX4_statement_107 : decode cX4_statement 107 = .ok (.invokevirtual 151, 3) := dk_182 0 151 (dk_at dksX4_statement_4 16 rfl rfl)
theorem dX4_statement_110 : decode cX4_statement 110 = .ok (.iconst 1, 1) := dk_4 (dk_at dksX4_statement_4 19 rfl rfl)
theorem dX4_statement_111 : decode cX4_statement 111 = .ok (.ireturn, 1) := dk_172 (dk_at dksX4_statement_4 20 rfl rfl)
abbrev cX4_isWord : ByteArray := prog_21_method_10_code
def yX4_isWord : MethodName := ⟨RX4, "isWord", "(Ljava/lang/String;)Z"⟩
def dkwX4_isWord_3 : List UInt8 := [167, 255, 216, 28, 172]
abbrev dktX4_isWord_3 : List UInt8 := dkwX4_isWord_3 ++ []
def dkwX4_isWord_2 : List UInt8 := [42, 180, 0, 111, 29, 96, 51, 43, 29, 182, 0, 137, 160, 0, 7, 4, 167, 0, 4, 3, 61, 132, 3, 1]
abbrev dktX4_isWord_2 : List UInt8 := dkwX4_isWord_2 ++ dktX4_isWord_3
def dkwX4_isWord_1 : List UInt8 := [4, 167, 0, 4, 3, 61, 3, 62, 29, 43, 182, 0, 132, 162, 0, 38, 28, 153, 0, 34, 42, 180, 0, 42]
abbrev dktX4_isWord_1 : List UInt8 := dkwX4_isWord_1 ++ dktX4_isWord_2
def dkwX4_isWord_0 : List UInt8 := [42, 180, 0, 117, 4, 160, 0, 23, 42, 180, 0, 104, 42, 180, 0, 111, 100, 43, 182, 0, 132, 160, 0, 7]
abbrev dktX4_isWord_0 : List UInt8 := dkwX4_isWord_0 ++ dktX4_isWord_1
theorem dksX4_isWord_0 : cX4_isWord.data.toList.drop 0 = dktX4_isWord_0 := by decide +kernel
theorem dksX4_isWord_1 : cX4_isWord.data.toList.drop 24 = dktX4_isWord_1 := dk_seg dksX4_isWord_0 24 rfl rfl
theorem dksX4_isWord_2 : cX4_isWord.data.toList.drop 48 = dktX4_isWord_2 := dk_seg dksX4_isWord_1 24 rfl rfl
theorem dksX4_isWord_3 : cX4_isWord.data.toList.drop 72 = dktX4_isWord_3 := dk_seg dksX4_isWord_2 24 rfl rfl
theorem dX4_isWord_0 : decode cX4_isWord 0 = .ok (.aload_n 0, 1) := dk_42 (dk_at dksX4_isWord_0 0 rfl rfl)
theorem dX4_isWord_1 : decode cX4_isWord 1 = .ok (.getfield 117, 3) := dk_180 0 117 (dk_at dksX4_isWord_0 1 rfl rfl)
theorem dX4_isWord_4 : decode cX4_isWord 4 = .ok (.iconst 1, 1) := dk_4 (dk_at dksX4_isWord_0 4 rfl rfl)
theorem dX4_isWord_5 : decode cX4_isWord 5 = .ok (.if_icmp .ne 23, 3) := dk_160 0 23 (dk_at dksX4_isWord_0 5 rfl rfl)
theorem dX4_isWord_8 : decode cX4_isWord 8 = .ok (.aload_n 0, 1) := dk_42 (dk_at dksX4_isWord_0 8 rfl rfl)
theorem dX4_isWord_9 : decode cX4_isWord 9 = .ok (.getfield 104, 3) := dk_180 0 104 (dk_at dksX4_isWord_0 9 rfl rfl)
theorem dX4_isWord_12 : decode cX4_isWord 12 = .ok (.aload_n 0, 1) := dk_42 (dk_at dksX4_isWord_0 12 rfl rfl)
theorem dX4_isWord_13 : decode cX4_isWord 13 = .ok (.getfield 111, 3) := dk_180 0 111 (dk_at dksX4_isWord_0 13 rfl rfl)
theorem dX4_isWord_16 : decode cX4_isWord 16 = .ok (.isub, 1) := dk_100 (dk_at dksX4_isWord_0 16 rfl rfl)
theorem dX4_isWord_17 : decode cX4_isWord 17 = .ok (.aload_n 1, 1) := dk_43 (dk_at dksX4_isWord_0 17 rfl rfl)
theorem dX4_isWord_18 : decode cX4_isWord 18 = .ok (.invokevirtual 132, 3) := dk_182 0 132 (dk_at dksX4_isWord_0 18 rfl rfl)
theorem dX4_isWord_21 : decode cX4_isWord 21 = .ok (.if_icmp .ne 7, 3) := dk_160 0 7 (dk_at dksX4_isWord_0 21 rfl rfl)
theorem dX4_isWord_24 : decode cX4_isWord 24 = .ok (.iconst 1, 1) := dk_4 (dk_at dksX4_isWord_1 0 rfl rfl)
theorem dX4_isWord_25 : decode cX4_isWord 25 = .ok (.goto 4, 3) := dk_167 0 4 (dk_at dksX4_isWord_1 1 rfl rfl)
theorem dX4_isWord_28 : decode cX4_isWord 28 = .ok (.iconst 0, 1) := dk_3 (dk_at dksX4_isWord_1 4 rfl rfl)
theorem dX4_isWord_29 : decode cX4_isWord 29 = .ok (.istore_n 2, 1) := dk_61 (dk_at dksX4_isWord_1 5 rfl rfl)
theorem dX4_isWord_30 : decode cX4_isWord 30 = .ok (.iconst 0, 1) := dk_3 (dk_at dksX4_isWord_1 6 rfl rfl)
theorem dX4_isWord_31 : decode cX4_isWord 31 = .ok (.istore_n 3, 1) := dk_62 (dk_at dksX4_isWord_1 7 rfl rfl)
theorem dX4_isWord_32 : decode cX4_isWord 32 = .ok (.iload_n 3, 1) := dk_29 (dk_at dksX4_isWord_1 8 rfl rfl)
theorem dX4_isWord_33 : decode cX4_isWord 33 = .ok (.aload_n 1, 1) := dk_43 (dk_at dksX4_isWord_1 9 rfl rfl)
theorem dX4_isWord_34 : decode cX4_isWord 34 = .ok (.invokevirtual 132, 3) := dk_182 0 132 (dk_at dksX4_isWord_1 10 rfl rfl)
theorem dX4_isWord_37 : decode cX4_isWord 37 = .ok (.if_icmp .ge 38, 3) := dk_162 0 38 (dk_at dksX4_isWord_1 13 rfl rfl)
theorem dX4_isWord_40 : decode cX4_isWord 40 = .ok (.iload_n 2, 1) := dk_28 (dk_at dksX4_isWord_1 16 rfl rfl)
theorem dX4_isWord_41 : decode cX4_isWord 41 = .ok (.ifCond .eq 34, 3) := dk_153 0 34 (dk_at dksX4_isWord_1 17 rfl rfl)
theorem dX4_isWord_44 : decode cX4_isWord 44 = .ok (.aload_n 0, 1) := dk_42 (dk_at dksX4_isWord_1 20 rfl rfl)
theorem dX4_isWord_45 : decode cX4_isWord 45 = .ok (.getfield 42, 3) := dk_180 0 42 (dk_at dksX4_isWord_1 21 rfl rfl)
theorem dX4_isWord_48 : decode cX4_isWord 48 = .ok (.aload_n 0, 1) := dk_42 (dk_at dksX4_isWord_2 0 rfl rfl)
theorem dX4_isWord_49 : decode cX4_isWord 49 = .ok (.getfield 111, 3) := dk_180 0 111 (dk_at dksX4_isWord_2 1 rfl rfl)
theorem dX4_isWord_52 : decode cX4_isWord 52 = .ok (.iload_n 3, 1) := dk_29 (dk_at dksX4_isWord_2 4 rfl rfl)
theorem dX4_isWord_53 : decode cX4_isWord 53 = .ok (.iadd, 1) := dk_96 (dk_at dksX4_isWord_2 5 rfl rfl)
theorem dX4_isWord_54 : decode cX4_isWord 54 = .ok (.baload, 1) := dk_51 (dk_at dksX4_isWord_2 6 rfl rfl)
theorem dX4_isWord_55 : decode cX4_isWord 55 = .ok (.aload_n 1, 1) := dk_43 (dk_at dksX4_isWord_2 7 rfl rfl)
theorem dX4_isWord_56 : decode cX4_isWord 56 = .ok (.iload_n 3, 1) := dk_29 (dk_at dksX4_isWord_2 8 rfl rfl)
theorem dX4_isWord_57 : decode cX4_isWord 57 = .ok (.invokevirtual 137, 3) := dk_182 0 137 (dk_at dksX4_isWord_2 9 rfl rfl)
theorem dX4_isWord_60 : decode cX4_isWord 60 = .ok (.if_icmp .ne 7, 3) := dk_160 0 7 (dk_at dksX4_isWord_2 12 rfl rfl)
theorem dX4_isWord_63 : decode cX4_isWord 63 = .ok (.iconst 1, 1) := dk_4 (dk_at dksX4_isWord_2 15 rfl rfl)
theorem dX4_isWord_64 : decode cX4_isWord 64 = .ok (.goto 4, 3) := dk_167 0 4 (dk_at dksX4_isWord_2 16 rfl rfl)
theorem dX4_isWord_67 : decode cX4_isWord 67 = .ok (.iconst 0, 1) := dk_3 (dk_at dksX4_isWord_2 19 rfl rfl)
theorem dX4_isWord_68 : decode cX4_isWord 68 = .ok (.istore_n 2, 1) := dk_61 (dk_at dksX4_isWord_2 20 rfl rfl)
theorem dX4_isWord_69 : decode cX4_isWord 69 = .ok (.iinc 3 1, 3) := dk_132 3 1 (dk_at dksX4_isWord_2 21 rfl rfl)
theorem dX4_isWord_72 : decode cX4_isWord 72 = .ok (.goto (-40), 3) := dk_167 255 216 (dk_at dksX4_isWord_3 0 rfl rfl)
theorem dX4_isWord_75 : decode cX4_isWord 75 = .ok (.iload_n 2, 1) := dk_28 (dk_at dksX4_isWord_3 3 rfl rfl)
theorem dX4_isWord_76 : decode cX4_isWord 76 = .ok (.ireturn, 1) := dk_172 (dk_at dksX4_isWord_3 4 rfl rfl)
abbrev cX4_traderLine : ByteArray := prog_21_method_14_code
def yX4_traderLine : MethodName := ⟨RX4, "traderLine", "()Z"⟩
def dkwX4_traderLine_1 : List UInt8 := [89, 180, 0, 154, 4, 96, 181, 0, 154, 4, 172]
abbrev dktX4_traderLine_1 : List UInt8 := dkwX4_traderLine_1 ++ []
def dkwX4_traderLine_0 : List UInt8 := [42, 42, 180, 0, 154, 16, 8, 162, 0, 7, 4, 167, 0, 4, 3, 182, 0, 157, 154, 0, 5, 3, 172, 42]
abbrev dktX4_traderLine_0 : List UInt8 := dkwX4_traderLine_0 ++ dktX4_traderLine_1
theorem dksX4_traderLine_0 : cX4_traderLine.data.toList.drop 0 = dktX4_traderLine_0 := by decide +kernel
theorem dksX4_traderLine_1 : cX4_traderLine.data.toList.drop 24 = dktX4_traderLine_1 := dk_seg dksX4_traderLine_0 24 rfl rfl
theorem dX4_traderLine_0 : decode cX4_traderLine 0 = .ok (.aload_n 0, 1) := dk_42 (dk_at dksX4_traderLine_0 0 rfl rfl)
theorem dX4_traderLine_1 : decode cX4_traderLine 1 = .ok (.aload_n 0, 1) := dk_42 (dk_at dksX4_traderLine_0 1 rfl rfl)
theorem dX4_traderLine_2 : decode cX4_traderLine 2 = .ok (.getfield 154, 3) := dk_180 0 154 (dk_at dksX4_traderLine_0 2 rfl rfl)
theorem dX4_traderLine_5 : decode cX4_traderLine 5 = .ok (.bipush 8, 2) := dk_16 8 (dk_at dksX4_traderLine_0 5 rfl rfl)
theorem dX4_traderLine_7 : decode cX4_traderLine 7 = .ok (.if_icmp .ge 7, 3) := dk_162 0 7 (dk_at dksX4_traderLine_0 7 rfl rfl)
theorem dX4_traderLine_10 : decode cX4_traderLine 10 = .ok (.iconst 1, 1) := dk_4 (dk_at dksX4_traderLine_0 10 rfl rfl)
theorem dX4_traderLine_11 : decode cX4_traderLine 11 = .ok (.goto 4, 3) := dk_167 0 4 (dk_at dksX4_traderLine_0 11 rfl rfl)
theorem dX4_traderLine_14 : decode cX4_traderLine 14 = .ok (.iconst 0, 1) := dk_3 (dk_at dksX4_traderLine_0 14 rfl rfl)
theorem dX4_traderLine_15 : decode cX4_traderLine 15 = .ok (.invokevirtual 157, 3) := dk_182 0 157 (dk_at dksX4_traderLine_0 15 rfl rfl)
theorem dX4_traderLine_18 : decode cX4_traderLine 18 = .ok (.ifCond .ne 5, 3) := dk_154 0 5 (dk_at dksX4_traderLine_0 18 rfl rfl)
theorem dX4_traderLine_21 : decode cX4_traderLine 21 = .ok (.iconst 0, 1) := dk_3 (dk_at dksX4_traderLine_0 21 rfl rfl)
theorem dX4_traderLine_22 : decode cX4_traderLine 22 = .ok (.ireturn, 1) := dk_172 (dk_at dksX4_traderLine_0 22 rfl rfl)
theorem dX4_traderLine_23 : decode cX4_traderLine 23 = .ok (.aload_n 0, 1) := dk_42 (dk_at dksX4_traderLine_0 23 rfl rfl)
theorem dX4_traderLine_24 : decode cX4_traderLine 24 = .ok (.dup, 1) := dk_89 (dk_at dksX4_traderLine_1 0 rfl rfl)
theorem dX4_traderLine_25 : decode cX4_traderLine 25 = .ok (.getfield 154, 3) := dk_180 0 154 (dk_at dksX4_traderLine_1 1 rfl rfl)
theorem dX4_traderLine_28 : decode cX4_traderLine 28 = .ok (.iconst 1, 1) := dk_4 (dk_at dksX4_traderLine_1 4 rfl rfl)
theorem dX4_traderLine_29 : decode cX4_traderLine 29 = .ok (.iadd, 1) := dk_96 (dk_at dksX4_traderLine_1 5 rfl rfl)
theorem dX4_traderLine_30 : decode cX4_traderLine 30 = .ok (.putfield 154, 3) := dk_181 0 154 (dk_at dksX4_traderLine_1 6 rfl rfl)
theorem dX4_traderLine_33 : decode cX4_traderLine 33 = .ok (.iconst 1, 1) := dk_4 (dk_at dksX4_traderLine_1 9 rfl rfl)
theorem dX4_traderLine_34 : decode cX4_traderLine 34 = .ok (.ireturn, 1) := dk_172 (dk_at dksX4_traderLine_1 10 rfl rfl)
abbrev cX4_begins : ByteArray := prog_21_method_13_code
def yX4_begins : MethodName := ⟨RX4, "begins", "(Z)Z"⟩
def dkwX4_begins_0 : List UInt8 := [27, 154, 0, 9, 42, 7, 182, 0, 144, 172, 42, 182, 0, 151, 4, 172]
abbrev dktX4_begins_0 : List UInt8 := dkwX4_begins_0 ++ []
theorem dksX4_begins_0 : cX4_begins.data.toList.drop 0 = dktX4_begins_0 := by decide +kernel
theorem dX4_begins_0 : decode cX4_begins 0 = .ok (.iload_n 1, 1) := dk_27 (dk_at dksX4_begins_0 0 rfl rfl)
theorem dX4_begins_1 : decode cX4_begins 1 = .ok (.ifCond .ne 9, 3) := dk_154 0 9 (dk_at dksX4_begins_0 1 rfl rfl)
theorem dX4_begins_4 : decode cX4_begins 4 = .ok (.aload_n 0, 1) := dk_42 (dk_at dksX4_begins_0 4 rfl rfl)
theorem dX4_begins_5 : decode cX4_begins 5 = .ok (.iconst 4, 1) := dk_7 (dk_at dksX4_begins_0 5 rfl rfl)
theorem dX4_begins_6 : decode cX4_begins 6 = .ok (.invokevirtual 144, 3) := dk_182 0 144 (dk_at dksX4_begins_0 6 rfl rfl)
theorem dX4_begins_9 : decode cX4_begins 9 = .ok (.ireturn, 1) := dk_172 (dk_at dksX4_begins_0 9 rfl rfl)
theorem dX4_begins_10 : decode cX4_begins 10 = .ok (.aload_n 0, 1) := dk_42 (dk_at dksX4_begins_0 10 rfl rfl)
theorem dX4_begins_11 : decode cX4_begins 11 = .ok (.invokevirtual 151, 3) := dk_182 0 151 (dk_at dksX4_begins_0 11 rfl rfl)
theorem dX4_begins_14 : decode cX4_begins 14 = .ok (.iconst 1, 1) := dk_4 (dk_at dksX4_begins_0 14 rfl rfl)
theorem dX4_begins_15 : decode cX4_begins 15 = .ok (.ireturn, 1) := dk_172 (dk_at dksX4_begins_0 15 rfl rfl)
abbrev cX4_fails : ByteArray := prog_21_method_11_code
def yX4_fails : MethodName := ⟨RX4, "fails", "(I)Z"⟩
def dkwX4_fails_0 : List UInt8 := [42, 180, 0, 141, 154, 0, 16, 42, 27, 181, 0, 141, 42, 42, 180, 0, 111, 181, 0, 46, 3, 172]
abbrev dktX4_fails_0 : List UInt8 := dkwX4_fails_0 ++ []
theorem dksX4_fails_0 : cX4_fails.data.toList.drop 0 = dktX4_fails_0 := by decide +kernel
theorem dX4_fails_0 : decode cX4_fails 0 = .ok (.aload_n 0, 1) := dk_42 (dk_at dksX4_fails_0 0 rfl rfl)
theorem dX4_fails_1 : decode cX4_fails 1 = .ok (.getfield 141, 3) := dk_180 0 141 (dk_at dksX4_fails_0 1 rfl rfl)
theorem dX4_fails_4 : decode cX4_fails 4 = .ok (.ifCond .ne 16, 3) := dk_154 0 16 (dk_at dksX4_fails_0 4 rfl rfl)
theorem dX4_fails_7 : decode cX4_fails 7 = .ok (.aload_n 0, 1) := dk_42 (dk_at dksX4_fails_0 7 rfl rfl)
theorem dX4_fails_8 : decode cX4_fails 8 = .ok (.iload_n 1, 1) := dk_27 (dk_at dksX4_fails_0 8 rfl rfl)
theorem dX4_fails_9 : decode cX4_fails 9 = .ok (.putfield 141, 3) := dk_181 0 141 (dk_at dksX4_fails_0 9 rfl rfl)
theorem dX4_fails_12 : decode cX4_fails 12 = .ok (.aload_n 0, 1) := dk_42 (dk_at dksX4_fails_0 12 rfl rfl)
theorem dX4_fails_13 : decode cX4_fails 13 = .ok (.aload_n 0, 1) := dk_42 (dk_at dksX4_fails_0 13 rfl rfl)
theorem dX4_fails_14 : decode cX4_fails 14 = .ok (.getfield 111, 3) := dk_180 0 111 (dk_at dksX4_fails_0 14 rfl rfl)
theorem dX4_fails_17 : decode cX4_fails 17 = .ok (.putfield 46, 3) := dk_181 0 46 (dk_at dksX4_fails_0 17 rfl rfl)
theorem dX4_fails_20 : decode cX4_fails 20 = .ok (.iconst 0, 1) := dk_3 (dk_at dksX4_fails_0 20 rfl rfl)
theorem dX4_fails_21 : decode cX4_fails 21 = .ok (.ireturn, 1) := dk_172 (dk_at dksX4_fails_0 21 rfl rfl)
abbrev cX4_scaleLine : ByteArray := prog_21_method_15_code
def yX4_scaleLine : MethodName := ⟨RX4, "scaleLine", "()Z"⟩
def dkwX4_scaleLine_5 : List UInt8 := [180, 0, 148, 79, 42, 89, 180, 0, 161, 4, 96, 181, 0, 161, 4, 172]
abbrev dktX4_scaleLine_5 : List UInt8 := dkwX4_scaleLine_5 ++ []
def dkwX4_scaleLine_4 : List UInt8 := [42, 180, 0, 55, 27, 46, 104, 18, 168, 182, 0, 164, 154, 0, 5, 3, 172, 42, 180, 0, 58, 27, 42]
abbrev dktX4_scaleLine_4 : List UInt8 := dkwX4_scaleLine_4 ++ dktX4_scaleLine_5
def dkwX4_scaleLine_3 : List UInt8 := [17, 3, 232, 182, 0, 164, 154, 0, 5, 3, 172, 42, 180, 0, 55, 27, 42, 180, 0, 148, 79, 42, 16, 20]
abbrev dktX4_scaleLine_3 : List UInt8 := dkwX4_scaleLine_3 ++ dktX4_scaleLine_4
def dkwX4_scaleLine_2 : List UInt8 := [79, 42, 3, 5, 182, 0, 164, 154, 0, 5, 3, 172, 42, 180, 0, 52, 27, 42, 180, 0, 148, 79, 42, 4]
abbrev dktX4_scaleLine_2 : List UInt8 := dkwX4_scaleLine_2 ++ dktX4_scaleLine_3
def dkwX4_scaleLine_1 : List UInt8 := [3, 42, 180, 0, 154, 4, 100, 182, 0, 164, 154, 0, 5, 3, 172, 42, 180, 0, 49, 27, 42, 180, 0, 148]
abbrev dktX4_scaleLine_1 : List UInt8 := dkwX4_scaleLine_1 ++ dktX4_scaleLine_2
def dkwX4_scaleLine_0 : List UInt8 := [42, 180, 0, 161, 60, 42, 27, 16, 24, 162, 0, 7, 4, 167, 0, 4, 3, 182, 0, 157, 153, 0, 17, 42]
abbrev dktX4_scaleLine_0 : List UInt8 := dkwX4_scaleLine_0 ++ dktX4_scaleLine_1
theorem dksX4_scaleLine_0 : cX4_scaleLine.data.toList.drop 0 = dktX4_scaleLine_0 := by decide +kernel
theorem dksX4_scaleLine_1 : cX4_scaleLine.data.toList.drop 24 = dktX4_scaleLine_1 := dk_seg dksX4_scaleLine_0 24 rfl rfl
theorem dksX4_scaleLine_2 : cX4_scaleLine.data.toList.drop 48 = dktX4_scaleLine_2 := dk_seg dksX4_scaleLine_1 24 rfl rfl
theorem dksX4_scaleLine_3 : cX4_scaleLine.data.toList.drop 72 = dktX4_scaleLine_3 := dk_seg dksX4_scaleLine_2 24 rfl rfl
theorem dksX4_scaleLine_4 : cX4_scaleLine.data.toList.drop 96 = dktX4_scaleLine_4 := dk_seg dksX4_scaleLine_3 24 rfl rfl
theorem dksX4_scaleLine_5 : cX4_scaleLine.data.toList.drop 119 = dktX4_scaleLine_5 := dk_seg dksX4_scaleLine_4 23 rfl rfl
theorem dX4_scaleLine_0 : decode cX4_scaleLine 0 = .ok (.aload_n 0, 1) := dk_42 (dk_at dksX4_scaleLine_0 0 rfl rfl)
theorem dX4_scaleLine_1 : decode cX4_scaleLine 1 = .ok (.getfield 161, 3) := dk_180 0 161 (dk_at dksX4_scaleLine_0 1 rfl rfl)
theorem dX4_scaleLine_4 : decode cX4_scaleLine 4 = .ok (.istore_n 1, 1) := dk_60 (dk_at dksX4_scaleLine_0 4 rfl rfl)
theorem dX4_scaleLine_5 : decode cX4_scaleLine 5 = .ok (.aload_n 0, 1) := dk_42 (dk_at dksX4_scaleLine_0 5 rfl rfl)
theorem dX4_scaleLine_6 : decode cX4_scaleLine 6 = .ok (.iload_n 1, 1) := dk_27 (dk_at dksX4_scaleLine_0 6 rfl rfl)
theorem dX4_scaleLine_7 : decode cX4_scaleLine 7 = .ok (.bipush 24, 2) := dk_16 24 (dk_at dksX4_scaleLine_0 7 rfl rfl)
theorem dX4_scaleLine_9 : decode cX4_scaleLine 9 = .ok (.if_icmp .ge 7, 3) := dk_162 0 7 (dk_at dksX4_scaleLine_0 9 rfl rfl)
theorem dX4_scaleLine_12 : decode cX4_scaleLine 12 = .ok (.iconst 1, 1) := dk_4 (dk_at dksX4_scaleLine_0 12 rfl rfl)
theorem dX4_scaleLine_13 : decode cX4_scaleLine 13 = .ok (.goto 4, 3) := dk_167 0 4 (dk_at dksX4_scaleLine_0 13 rfl rfl)
theorem dX4_scaleLine_16 : decode cX4_scaleLine 16 = .ok (.iconst 0, 1) := dk_3 (dk_at dksX4_scaleLine_0 16 rfl rfl)
theorem dX4_scaleLine_17 : decode cX4_scaleLine 17 = .ok (.invokevirtual 157, 3) := dk_182 0 157 (dk_at dksX4_scaleLine_0 17 rfl rfl)
theorem dX4_scaleLine_20 : decode cX4_scaleLine 20 = .ok (.ifCond .eq 17, 3) := dk_153 0 17 (dk_at dksX4_scaleLine_0 20 rfl rfl)
theorem dX4_scaleLine_23 : decode cX4_scaleLine 23 = .ok (.aload_n 0, 1) := dk_42 (dk_at dksX4_scaleLine_0 23 rfl rfl)
theorem dX4_scaleLine_24 : decode cX4_scaleLine 24 = .ok (.iconst 0, 1) := dk_3 (dk_at dksX4_scaleLine_1 0 rfl rfl)
theorem dX4_scaleLine_25 : decode cX4_scaleLine 25 = .ok (.aload_n 0, 1) := dk_42 (dk_at dksX4_scaleLine_1 1 rfl rfl)
theorem dX4_scaleLine_26 : decode cX4_scaleLine 26 = .ok (.getfield 154, 3) := dk_180 0 154 (dk_at dksX4_scaleLine_1 2 rfl rfl)
theorem dX4_scaleLine_29 : decode cX4_scaleLine 29 = .ok (.iconst 1, 1) := dk_4 (dk_at dksX4_scaleLine_1 5 rfl rfl)
theorem dX4_scaleLine_30 : decode cX4_scaleLine 30 = .ok (.isub, 1) := dk_100 (dk_at dksX4_scaleLine_1 6 rfl rfl)
theorem dX4_scaleLine_31 : decode cX4_scaleLine 31 = .ok (.invokevirtual 164, 3) := dk_182 0 164 (dk_at dksX4_scaleLine_1 7 rfl rfl)
theorem dX4_scaleLine_34 : decode cX4_scaleLine 34 = .ok (.ifCond .ne 5, 3) := dk_154 0 5 (dk_at dksX4_scaleLine_1 10 rfl rfl)
theorem dX4_scaleLine_37 : decode cX4_scaleLine 37 = .ok (.iconst 0, 1) := dk_3 (dk_at dksX4_scaleLine_1 13 rfl rfl)
theorem dX4_scaleLine_38 : decode cX4_scaleLine 38 = .ok (.ireturn, 1) := dk_172 (dk_at dksX4_scaleLine_1 14 rfl rfl)
theorem dX4_scaleLine_39 : decode cX4_scaleLine 39 = .ok (.aload_n 0, 1) := dk_42 (dk_at dksX4_scaleLine_1 15 rfl rfl)
theorem dX4_scaleLine_40 : decode cX4_scaleLine 40 = .ok (.getfield 49, 3) := dk_180 0 49 (dk_at dksX4_scaleLine_1 16 rfl rfl)
theorem dX4_scaleLine_43 : decode cX4_scaleLine 43 = .ok (.iload_n 1, 1) := dk_27 (dk_at dksX4_scaleLine_1 19 rfl rfl)
theorem dX4_scaleLine_44 : decode cX4_scaleLine 44 = .ok (.aload_n 0, 1) := dk_42 (dk_at dksX4_scaleLine_1 20 rfl rfl)
theorem dX4_scaleLine_45 : decode cX4_scaleLine 45 = .ok (.getfield 148, 3) := dk_180 0 148 (dk_at dksX4_scaleLine_1 21 rfl rfl)
theorem dX4_scaleLine_48 : decode cX4_scaleLine 48 = .ok (.iastore, 1) := dk_79 (dk_at dksX4_scaleLine_2 0 rfl rfl)
theorem dX4_scaleLine_49 : decode cX4_scaleLine 49 = .ok (.aload_n 0, 1) := dk_42 (dk_at dksX4_scaleLine_2 1 rfl rfl)
theorem dX4_scaleLine_50 : decode cX4_scaleLine 50 = .ok (.iconst 0, 1) := dk_3 (dk_at dksX4_scaleLine_2 2 rfl rfl)
theorem dX4_scaleLine_51 : decode cX4_scaleLine 51 = .ok (.iconst 2, 1) := dk_5 (dk_at dksX4_scaleLine_2 3 rfl rfl)
theorem dX4_scaleLine_52 : decode cX4_scaleLine 52 = .ok (.invokevirtual 164, 3) := dk_182 0 164 (dk_at dksX4_scaleLine_2 4 rfl rfl)
theorem dX4_scaleLine_55 : decode cX4_scaleLine 55 = .ok (.ifCond .ne 5, 3) := dk_154 0 5 (dk_at dksX4_scaleLine_2 7 rfl rfl)
theorem dX4_scaleLine_58 : decode cX4_scaleLine 58 = .ok (.iconst 0, 1) := dk_3 (dk_at dksX4_scaleLine_2 10 rfl rfl)
theorem dX4_scaleLine_59 : decode cX4_scaleLine 59 = .ok (.ireturn, 1) := dk_172 (dk_at dksX4_scaleLine_2 11 rfl rfl)
theorem dX4_scaleLine_60 : decode cX4_scaleLine 60 = .ok (.aload_n 0, 1) := dk_42 (dk_at dksX4_scaleLine_2 12 rfl rfl)
theorem dX4_scaleLine_61 : decode cX4_scaleLine 61 = .ok (.getfield 52, 3) := dk_180 0 52 (dk_at dksX4_scaleLine_2 13 rfl rfl)
theorem dX4_scaleLine_64 : decode cX4_scaleLine 64 = .ok (.iload_n 1, 1) := dk_27 (dk_at dksX4_scaleLine_2 16 rfl rfl)
theorem dX4_scaleLine_65 : decode cX4_scaleLine 65 = .ok (.aload_n 0, 1) := dk_42 (dk_at dksX4_scaleLine_2 17 rfl rfl)
theorem dX4_scaleLine_66 : decode cX4_scaleLine 66 = .ok (.getfield 148, 3) := dk_180 0 148 (dk_at dksX4_scaleLine_2 18 rfl rfl)
theorem dX4_scaleLine_69 : decode cX4_scaleLine 69 = .ok (.iastore, 1) := dk_79 (dk_at dksX4_scaleLine_2 21 rfl rfl)
theorem dX4_scaleLine_70 : decode cX4_scaleLine 70 = .ok (.aload_n 0, 1) := dk_42 (dk_at dksX4_scaleLine_2 22 rfl rfl)
theorem dX4_scaleLine_71 : decode cX4_scaleLine 71 = .ok (.iconst 1, 1) := dk_4 (dk_at dksX4_scaleLine_2 23 rfl rfl)
theorem dX4_scaleLine_72 : decode cX4_scaleLine 72 = .ok (.sipush 1000, 3) := dk_17 3 232 (dk_at dksX4_scaleLine_3 0 rfl rfl)
theorem dX4_scaleLine_75 : decode cX4_scaleLine 75 = .ok (.invokevirtual 164, 3) := dk_182 0 164 (dk_at dksX4_scaleLine_3 3 rfl rfl)
theorem dX4_scaleLine_78 : decode cX4_scaleLine 78 = .ok (.ifCond .ne 5, 3) := dk_154 0 5 (dk_at dksX4_scaleLine_3 6 rfl rfl)
theorem dX4_scaleLine_81 : decode cX4_scaleLine 81 = .ok (.iconst 0, 1) := dk_3 (dk_at dksX4_scaleLine_3 9 rfl rfl)
theorem dX4_scaleLine_82 : decode cX4_scaleLine 82 = .ok (.ireturn, 1) := dk_172 (dk_at dksX4_scaleLine_3 10 rfl rfl)
theorem dX4_scaleLine_83 : decode cX4_scaleLine 83 = .ok (.aload_n 0, 1) := dk_42 (dk_at dksX4_scaleLine_3 11 rfl rfl)
theorem dX4_scaleLine_84 : decode cX4_scaleLine 84 = .ok (.getfield 55, 3) := dk_180 0 55 (dk_at dksX4_scaleLine_3 12 rfl rfl)
theorem dX4_scaleLine_87 : decode cX4_scaleLine 87 = .ok (.iload_n 1, 1) := dk_27 (dk_at dksX4_scaleLine_3 15 rfl rfl)
theorem dX4_scaleLine_88 : decode cX4_scaleLine 88 = .ok (.aload_n 0, 1) := dk_42 (dk_at dksX4_scaleLine_3 16 rfl rfl)
theorem dX4_scaleLine_89 : decode cX4_scaleLine 89 = .ok (.getfield 148, 3) := dk_180 0 148 (dk_at dksX4_scaleLine_3 17 rfl rfl)
theorem dX4_scaleLine_92 : decode cX4_scaleLine 92 = .ok (.iastore, 1) := dk_79 (dk_at dksX4_scaleLine_3 20 rfl rfl)
theorem dX4_scaleLine_93 : decode cX4_scaleLine 93 = .ok (.aload_n 0, 1) := dk_42 (dk_at dksX4_scaleLine_3 21 rfl rfl)
theorem dX4_scaleLine_94 : decode cX4_scaleLine 94 = .ok (.bipush 20, 2) := dk_16 20 (dk_at dksX4_scaleLine_3 22 rfl rfl)
theorem dX4_scaleLine_96 : decode cX4_scaleLine 96 = .ok (.aload_n 0, 1) := dk_42 (dk_at dksX4_scaleLine_4 0 rfl rfl)
theorem dX4_scaleLine_97 : decode cX4_scaleLine 97 = .ok (.getfield 55, 3) := dk_180 0 55 (dk_at dksX4_scaleLine_4 1 rfl rfl)
theorem dX4_scaleLine_100 : decode cX4_scaleLine 100 = .ok (.iload_n 1, 1) := dk_27 (dk_at dksX4_scaleLine_4 4 rfl rfl)
theorem dX4_scaleLine_101 : decode cX4_scaleLine 101 = .ok (.iaload, 1) := dk_46 (dk_at dksX4_scaleLine_4 5 rfl rfl)
theorem dX4_scaleLine_102 : decode cX4_scaleLine 102 = .ok (.imul, 1) := dk_104 (dk_at dksX4_scaleLine_4 6 rfl rfl)
theorem dX4_scaleLine_103 : decode cX4_scaleLine 103 = .ok (.ldc 168, 2) := dk_18 168 (dk_at dksX4_scaleLine_4 7 rfl rfl)
theorem dX4_scaleLine_105 : decode cX4_scaleLine 105 = .ok (.invokevirtual 164, 3) := dk_182 0 164 (dk_at dksX4_scaleLine_4 9 rfl rfl)
theorem dX4_scaleLine_108 : decode cX4_scaleLine 108 = .ok (.ifCond .ne 5, 3) := dk_154 0 5 (dk_at dksX4_scaleLine_4 12 rfl rfl)
theorem dX4_scaleLine_111 : decode cX4_scaleLine 111 = .ok (.iconst 0, 1) := dk_3 (dk_at dksX4_scaleLine_4 15 rfl rfl)
theorem dX4_scaleLine_112 : decode cX4_scaleLine 112 = .ok (.ireturn, 1) := dk_172 (dk_at dksX4_scaleLine_4 16 rfl rfl)
theorem dX4_scaleLine_113 : decode cX4_scaleLine 113 = .ok (.aload_n 0, 1) := dk_42 (dk_at dksX4_scaleLine_4 17 rfl rfl)
theorem dX4_scaleLine_114 : decode cX4_scaleLine 114 = .ok (.getfield 58, 3) := dk_180 0 58 (dk_at dksX4_scaleLine_4 18 rfl rfl)
theorem dX4_scaleLine_117 : decode cX4_scaleLine 117 = .ok (.iload_n 1, 1) := dk_27 (dk_at dksX4_scaleLine_4 21 rfl rfl)
theorem dX4_scaleLine_118 : decode cX4_scaleLine 118 = .ok (.aload_n 0, 1) := dk_42 (dk_at dksX4_scaleLine_4 22 rfl rfl)
theorem dX4_scaleLine_119 : decode cX4_scaleLine 119 = .ok (.getfield 148, 3) := dk_180 0 148 (dk_at dksX4_scaleLine_5 0 rfl rfl)
theorem dX4_scaleLine_122 : decode cX4_scaleLine 122 = .ok (.iastore, 1) := dk_79 (dk_at dksX4_scaleLine_5 3 rfl rfl)
theorem dX4_scaleLine_123 : decode cX4_scaleLine 123 = .ok (.aload_n 0, 1) := dk_42 (dk_at dksX4_scaleLine_5 4 rfl rfl)
theorem dX4_scaleLine_124 : decode cX4_scaleLine 124 = .ok (.dup, 1) := dk_89 (dk_at dksX4_scaleLine_5 5 rfl rfl)
theorem dX4_scaleLine_125 : decode cX4_scaleLine 125 = .ok (.getfield 161, 3) := dk_180 0 161 (dk_at dksX4_scaleLine_5 6 rfl rfl)
theorem dX4_scaleLine_128 : decode cX4_scaleLine 128 = .ok (.iconst 1, 1) := dk_4 (dk_at dksX4_scaleLine_5 9 rfl rfl)
theorem dX4_scaleLine_129 : decode cX4_scaleLine 129 = .ok (.iadd, 1) := dk_96 (dk_at dksX4_scaleLine_5 10 rfl rfl)
theorem dX4_scaleLine_130 : decode cX4_scaleLine 130 = .ok (.putfield 161, 3) := dk_181 0 161 (dk_at dksX4_scaleLine_5 11 rfl rfl)
theorem dX4_scaleLine_133 : decode cX4_scaleLine 133 = .ok (.iconst 1, 1) := dk_4 (dk_at dksX4_scaleLine_5 14 rfl rfl)
theorem dX4_scaleLine_134 : decode cX4_scaleLine 134 = .ok (.ireturn, 1) := dk_172 (dk_at dksX4_scaleLine_5 15 rfl rfl)
abbrev cX4_takes : ByteArray := prog_21_method_12_code
def yX4_takes : MethodName := ⟨RX4, "takes", "(II)Z"⟩
def dkwX4_takes_2 : List UInt8 := [4, 172]
abbrev dktX4_takes_2 : List UInt8 := dkwX4_takes_2 ++ []
def dkwX4_takes_1 : List UInt8 := [184, 0, 124, 154, 0, 9, 42, 6, 182, 0, 144, 172, 42, 42, 180, 0, 114, 181, 0, 148, 42, 182, 0, 151]
abbrev dktX4_takes_1 : List UInt8 := dkwX4_takes_1 ++ dktX4_takes_2
def dkwX4_takes_0 : List UInt8 := [42, 180, 0, 117, 5, 159, 0, 9, 42, 4, 182, 0, 144, 172, 42, 180, 0, 114, 133, 27, 133, 28, 133]
abbrev dktX4_takes_0 : List UInt8 := dkwX4_takes_0 ++ dktX4_takes_1
theorem dksX4_takes_0 : cX4_takes.data.toList.drop 0 = dktX4_takes_0 := by decide +kernel
theorem dksX4_takes_1 : cX4_takes.data.toList.drop 23 = dktX4_takes_1 := dk_seg dksX4_takes_0 23 rfl rfl
theorem dksX4_takes_2 : cX4_takes.data.toList.drop 47 = dktX4_takes_2 := dk_seg dksX4_takes_1 24 rfl rfl
theorem dX4_takes_0 : decode cX4_takes 0 = .ok (.aload_n 0, 1) := dk_42 (dk_at dksX4_takes_0 0 rfl rfl)
theorem dX4_takes_1 : decode cX4_takes 1 = .ok (.getfield 117, 3) := dk_180 0 117 (dk_at dksX4_takes_0 1 rfl rfl)
theorem dX4_takes_4 : decode cX4_takes 4 = .ok (.iconst 2, 1) := dk_5 (dk_at dksX4_takes_0 4 rfl rfl)
theorem dX4_takes_5 : decode cX4_takes 5 = .ok (.if_icmp .eq 9, 3) := dk_159 0 9 (dk_at dksX4_takes_0 5 rfl rfl)
theorem dX4_takes_8 : decode cX4_takes 8 = .ok (.aload_n 0, 1) := dk_42 (dk_at dksX4_takes_0 8 rfl rfl)
theorem dX4_takes_9 : decode cX4_takes 9 = .ok (.iconst 1, 1) := dk_4 (dk_at dksX4_takes_0 9 rfl rfl)
theorem dX4_takes_10 : decode cX4_takes 10 = .ok (.invokevirtual 144, 3) := dk_182 0 144 (dk_at dksX4_takes_0 10 rfl rfl)
theorem dX4_takes_13 : decode cX4_takes 13 = .ok (.ireturn, 1) := dk_172 (dk_at dksX4_takes_0 13 rfl rfl)
theorem dX4_takes_14 : decode cX4_takes 14 = .ok (.aload_n 0, 1) := dk_42 (dk_at dksX4_takes_0 14 rfl rfl)
theorem dX4_takes_15 : decode cX4_takes 15 = .ok (.getfield 114, 3) := dk_180 0 114 (dk_at dksX4_takes_0 15 rfl rfl)
theorem dX4_takes_18 : decode cX4_takes 18 = .ok (.i2l, 1) := dk_133 (dk_at dksX4_takes_0 18 rfl rfl)
theorem dX4_takes_19 : decode cX4_takes 19 = .ok (.iload_n 1, 1) := dk_27 (dk_at dksX4_takes_0 19 rfl rfl)
theorem dX4_takes_20 : decode cX4_takes 20 = .ok (.i2l, 1) := dk_133 (dk_at dksX4_takes_0 20 rfl rfl)
theorem dX4_takes_21 : decode cX4_takes 21 = .ok (.iload_n 2, 1) := dk_28 (dk_at dksX4_takes_0 21 rfl rfl)
theorem dX4_takes_22 : decode cX4_takes 22 = .ok (.i2l, 1) := dk_133 (dk_at dksX4_takes_0 22 rfl rfl)
theorem dX4_takes_23 : decode cX4_takes 23 = .ok (.invokestatic 124, 3) := dk_184 0 124 (dk_at dksX4_takes_1 0 rfl rfl)
theorem dX4_takes_26 : decode cX4_takes 26 = .ok (.ifCond .ne 9, 3) := dk_154 0 9 (dk_at dksX4_takes_1 3 rfl rfl)
theorem dX4_takes_29 : decode cX4_takes 29 = .ok (.aload_n 0, 1) := dk_42 (dk_at dksX4_takes_1 6 rfl rfl)
theorem dX4_takes_30 : decode cX4_takes 30 = .ok (.iconst 3, 1) := dk_6 (dk_at dksX4_takes_1 7 rfl rfl)
theorem dX4_takes_31 : decode cX4_takes 31 = .ok (.invokevirtual 144, 3) := dk_182 0 144 (dk_at dksX4_takes_1 8 rfl rfl)
theorem dX4_takes_34 : decode cX4_takes 34 = .ok (.ireturn, 1) := dk_172 (dk_at dksX4_takes_1 11 rfl rfl)
theorem dX4_takes_35 : decode cX4_takes 35 = .ok (.aload_n 0, 1) := dk_42 (dk_at dksX4_takes_1 12 rfl rfl)
theorem dX4_takes_36 : decode cX4_takes 36 = .ok (.aload_n 0, 1) := dk_42 (dk_at dksX4_takes_1 13 rfl rfl)
theorem dX4_takes_37 : decode cX4_takes 37 = .ok (.getfield 114, 3) := dk_180 0 114 (dk_at dksX4_takes_1 14 rfl rfl)
theorem dX4_takes_40 : decode cX4_takes 40 = .ok (.putfield 148, 3) := dk_181 0 148 (dk_at dksX4_takes_1 17 rfl rfl)
theorem dX4_takes_43 : decode cX4_takes 43 = .ok (.aload_n 0, 1) := dk_42 (dk_at dksX4_takes_1 20 rfl rfl)
theorem dX4_takes_44 : decode cX4_takes 44 = .ok (.invokevirtual 151, 3) := dk_182 0 151 (dk_at dksX4_takes_1 21 rfl rfl)
theorem dX4_takes_47 : decode cX4_takes 47 = .ok (.iconst 1, 1) := dk_4 (dk_at dksX4_takes_2 0 rfl rfl)
theorem dX4_takes_48 : decode cX4_takes 48 = .ok (.ireturn, 1) := dk_172 (dk_at dksX4_takes_2 1 rfl rfl)
abbrev cX4_massLine : ByteArray := prog_21_method_16_code
def yX4_massLine : MethodName := ⟨RX4, "massLine", "()Z"⟩
def dkwX4_massLine_5 : List UInt8 := [42, 89, 180, 0, 169, 4, 96, 181, 0, 169, 4, 172]
abbrev dktX4_massLine_5 : List UInt8 := dkwX4_massLine_5 ++ []
def dkwX4_massLine_4 : List UInt8 := [153, 0, 10, 42, 180, 0, 148, 167, 0, 8, 42, 180, 0, 148, 116, 96, 61, 42, 180, 0, 61, 27, 28, 79]
abbrev dktX4_massLine_4 : List UInt8 := dkwX4_massLine_4 ++ dktX4_massLine_5
def dkwX4_massLine_3 : List UInt8 := [16, 99, 164, 0, 8, 16, 99, 167, 0, 6, 28, 4, 100, 182, 0, 164, 154, 0, 5, 3, 172, 28, 29]
abbrev dktX4_massLine_3 : List UInt8 := dkwX4_massLine_3 ++ dktX4_massLine_4
def dkwX4_massLine_2 : List UInt8 := [154, 0, 12, 42, 18, 178, 182, 0, 174, 153, 0, 54, 42, 182, 0, 151, 42, 3, 29, 154, 0, 9, 28]
abbrev dktX4_massLine_2 : List UInt8 := dkwX4_massLine_2 ++ dktX4_massLine_3
def dkwX4_massLine_1 : List UInt8 := [4, 18, 168, 182, 0, 164, 154, 0, 5, 3, 172, 42, 180, 0, 148, 61, 42, 18, 172, 182, 0, 174, 62, 29]
abbrev dktX4_massLine_1 : List UInt8 := dkwX4_massLine_1 ++ dktX4_massLine_2
def dkwX4_massLine_0 : List UInt8 := [42, 180, 0, 169, 60, 42, 27, 16, 10, 162, 0, 7, 4, 167, 0, 4, 3, 182, 0, 157, 153, 0, 13, 42]
abbrev dktX4_massLine_0 : List UInt8 := dkwX4_massLine_0 ++ dktX4_massLine_1
theorem dksX4_massLine_0 : cX4_massLine.data.toList.drop 0 = dktX4_massLine_0 := by decide +kernel
theorem dksX4_massLine_1 : cX4_massLine.data.toList.drop 24 = dktX4_massLine_1 := dk_seg dksX4_massLine_0 24 rfl rfl
theorem dksX4_massLine_2 : cX4_massLine.data.toList.drop 48 = dktX4_massLine_2 := dk_seg dksX4_massLine_1 24 rfl rfl
theorem dksX4_massLine_3 : cX4_massLine.data.toList.drop 71 = dktX4_massLine_3 := dk_seg dksX4_massLine_2 23 rfl rfl
theorem dksX4_massLine_4 : cX4_massLine.data.toList.drop 94 = dktX4_massLine_4 := dk_seg dksX4_massLine_3 23 rfl rfl
theorem dksX4_massLine_5 : cX4_massLine.data.toList.drop 118 = dktX4_massLine_5 := dk_seg dksX4_massLine_4 24 rfl rfl
theorem dX4_massLine_0 : decode cX4_massLine 0 = .ok (.aload_n 0, 1) := dk_42 (dk_at dksX4_massLine_0 0 rfl rfl)
theorem dX4_massLine_1 : decode cX4_massLine 1 = .ok (.getfield 169, 3) := dk_180 0 169 (dk_at dksX4_massLine_0 1 rfl rfl)
theorem dX4_massLine_4 : decode cX4_massLine 4 = .ok (.istore_n 1, 1) := dk_60 (dk_at dksX4_massLine_0 4 rfl rfl)
theorem dX4_massLine_5 : decode cX4_massLine 5 = .ok (.aload_n 0, 1) := dk_42 (dk_at dksX4_massLine_0 5 rfl rfl)
theorem dX4_massLine_6 : decode cX4_massLine 6 = .ok (.iload_n 1, 1) := dk_27 (dk_at dksX4_massLine_0 6 rfl rfl)
theorem dX4_massLine_7 : decode cX4_massLine 7 = .ok (.bipush 10, 2) := dk_16 10 (dk_at dksX4_massLine_0 7 rfl rfl)
theorem dX4_massLine_9 : decode cX4_massLine 9 = .ok (.if_icmp .ge 7, 3) := dk_162 0 7 (dk_at dksX4_massLine_0 9 rfl rfl)
theorem dX4_massLine_12 : decode cX4_massLine 12 = .ok (.iconst 1, 1) := dk_4 (dk_at dksX4_massLine_0 12 rfl rfl)
theorem dX4_massLine_13 : decode cX4_massLine 13 = .ok (.goto 4, 3) := dk_167 0 4 (dk_at dksX4_massLine_0 13 rfl rfl)
theorem dX4_massLine_16 : decode cX4_massLine 16 = .ok (.iconst 0, 1) := dk_3 (dk_at dksX4_massLine_0 16 rfl rfl)
theorem dX4_massLine_17 : decode cX4_massLine 17 = .ok (.invokevirtual 157, 3) := dk_182 0 157 (dk_at dksX4_massLine_0 17 rfl rfl)
theorem dX4_massLine_20 : decode cX4_massLine 20 = .ok (.ifCond .eq 13, 3) := dk_153 0 13 (dk_at dksX4_massLine_0 20 rfl rfl)
theorem dX4_massLine_23 : decode cX4_massLine 23 = .ok (.aload_n 0, 1) := dk_42 (dk_at dksX4_massLine_0 23 rfl rfl)
theorem dX4_massLine_24 : decode cX4_massLine 24 = .ok (.iconst 1, 1) := dk_4 (dk_at dksX4_massLine_1 0 rfl rfl)
theorem dX4_massLine_25 : decode cX4_massLine 25 = .ok (.ldc 168, 2) := dk_18 168 (dk_at dksX4_massLine_1 1 rfl rfl)
theorem dX4_massLine_27 : decode cX4_massLine 27 = .ok (.invokevirtual 164, 3) := dk_182 0 164 (dk_at dksX4_massLine_1 3 rfl rfl)
theorem dX4_massLine_30 : decode cX4_massLine 30 = .ok (.ifCond .ne 5, 3) := dk_154 0 5 (dk_at dksX4_massLine_1 6 rfl rfl)
theorem dX4_massLine_33 : decode cX4_massLine 33 = .ok (.iconst 0, 1) := dk_3 (dk_at dksX4_massLine_1 9 rfl rfl)
theorem dX4_massLine_34 : decode cX4_massLine 34 = .ok (.ireturn, 1) := dk_172 (dk_at dksX4_massLine_1 10 rfl rfl)
theorem dX4_massLine_35 : decode cX4_massLine 35 = .ok (.aload_n 0, 1) := dk_42 (dk_at dksX4_massLine_1 11 rfl rfl)
theorem dX4_massLine_36 : decode cX4_massLine 36 = .ok (.getfield 148, 3) := dk_180 0 148 (dk_at dksX4_massLine_1 12 rfl rfl)
theorem dX4_massLine_39 : decode cX4_massLine 39 = .ok (.istore_n 2, 1) := dk_61 (dk_at dksX4_massLine_1 15 rfl rfl)
theorem dX4_massLine_40 : decode cX4_massLine 40 = .ok (.aload_n 0, 1) := dk_42 (dk_at dksX4_massLine_1 16 rfl rfl)
theorem dX4_massLine_41 : decode cX4_massLine 41 = .ok (.ldc 172, 2) := dk_18 172 (dk_at dksX4_massLine_1 17 rfl rfl)
theorem dX4_massLine_43 : decode cX4_massLine 43 = .ok (.invokevirtual 174, 3) := dk_182 0 174 (dk_at dksX4_massLine_1 19 rfl rfl)
theorem dX4_massLine_46 : decode cX4_massLine 46 = .ok (.istore_n 3, 1) := dk_62 (dk_at dksX4_massLine_1 22 rfl rfl)
theorem dX4_massLine_47 : decode cX4_massLine 47 = .ok (.iload_n 3, 1) := dk_29 (dk_at dksX4_massLine_1 23 rfl rfl)
theorem dX4_massLine_48 : decode cX4_massLine 48 = .ok (.ifCond .ne 12, 3) := dk_154 0 12 (dk_at dksX4_massLine_2 0 rfl rfl)
theorem dX4_massLine_51 : decode cX4_massLine 51 = .ok (.aload_n 0, 1) := dk_42 (dk_at dksX4_massLine_2 3 rfl rfl)
theorem dX4_massLine_52 : decode cX4_massLine 52 = .ok (.ldc 178, 2) := dk_18 178 (dk_at dksX4_massLine_2 4 rfl rfl)
theorem dX4_massLine_54 : decode cX4_massLine 54 = .ok (.invokevirtual 174, 3) := dk_182 0 174 (dk_at dksX4_massLine_2 6 rfl rfl)
theorem dX4_massLine_57 : decode cX4_massLine 57 = .ok (.ifCond .eq 54, 3) := dk_153 0 54 (dk_at dksX4_massLine_2 9 rfl rfl)
theorem dX4_massLine_60 : decode cX4_massLine 60 = .ok (.aload_n 0, 1) := dk_42 (dk_at dksX4_massLine_2 12 rfl rfl)
theorem dX4_massLine_61 : decode cX4_massLine 61 = .ok (.invokevirtual 151, 3) := dk_182 0 151 (dk_at dksX4_massLine_2 13 rfl rfl)
theorem dX4_massLine_64 : decode cX4_massLine 64 = .ok (.aload_n 0, 1) := dk_42 (dk_at dksX4_massLine_2 16 rfl rfl)
theorem dX4_massLine_65 : decode cX4_massLine 65 = .ok (.iconst 0, 1) := dk_3 (dk_at dksX4_massLine_2 17 rfl rfl)
theorem dX4_massLine_66 : decode cX4_massLine 66 = .ok (.iload_n 3, 1) := dk_29 (dk_at dksX4_massLine_2 18 rfl rfl)
theorem dX4_massLine_67 : decode cX4_massLine 67 = .ok (.ifCond .ne 9, 3) := dk_154 0 9 (dk_at dksX4_massLine_2 19 rfl rfl)
theorem dX4_massLine_70 : decode cX4_massLine 70 = .ok (.iload_n 2, 1) := dk_28 (dk_at dksX4_massLine_2 22 rfl rfl)
theorem dX4_massLine_71 : decode cX4_massLine 71 = .ok (.bipush 99, 2) := dk_16 99 (dk_at dksX4_massLine_3 0 rfl rfl)
theorem dX4_massLine_73 : decode cX4_massLine 73 = .ok (.if_icmp .le 8, 3) := dk_164 0 8 (dk_at dksX4_massLine_3 2 rfl rfl)
theorem dX4_massLine_76 : decode cX4_massLine 76 = .ok (.bipush 99, 2) := dk_16 99 (dk_at dksX4_massLine_3 5 rfl rfl)
theorem dX4_massLine_78 : decode cX4_massLine 78 = .ok (.goto 6, 3) := dk_167 0 6 (dk_at dksX4_massLine_3 7 rfl rfl)
theorem dX4_massLine_81 : decode cX4_massLine 81 = .ok (.iload_n 2, 1) := dk_28 (dk_at dksX4_massLine_3 10 rfl rfl)
theorem dX4_massLine_82 : decode cX4_massLine 82 = .ok (.iconst 1, 1) := dk_4 (dk_at dksX4_massLine_3 11 rfl rfl)
theorem dX4_massLine_83 : decode cX4_massLine 83 = .ok (.isub, 1) := dk_100 (dk_at dksX4_massLine_3 12 rfl rfl)
theorem dX4_massLine_84 : decode cX4_massLine 84 = .ok (.invokevirtual 164, 3) := dk_182 0 164 (dk_at dksX4_massLine_3 13 rfl rfl)
theorem dX4_massLine_87 : decode cX4_massLine 87 = .ok (.ifCond .ne 5, 3) := dk_154 0 5 (dk_at dksX4_massLine_3 16 rfl rfl)
theorem dX4_massLine_90 : decode cX4_massLine 90 = .ok (.iconst 0, 1) := dk_3 (dk_at dksX4_massLine_3 19 rfl rfl)
theorem dX4_massLine_91 : decode cX4_massLine 91 = .ok (.ireturn, 1) := dk_172 (dk_at dksX4_massLine_3 20 rfl rfl)
theorem dX4_massLine_92 : decode cX4_massLine 92 = .ok (.iload_n 2, 1) := dk_28 (dk_at dksX4_massLine_3 21 rfl rfl)
theorem dX4_massLine_93 : decode cX4_massLine 93 = .ok (.iload_n 3, 1) := dk_29 (dk_at dksX4_massLine_3 22 rfl rfl)
theorem dX4_massLine_94 : decode cX4_massLine 94 = .ok (.ifCond .eq 10, 3) := dk_153 0 10 (dk_at dksX4_massLine_4 0 rfl rfl)
theorem dX4_massLine_97 : decode cX4_massLine 97 = .ok (.aload_n 0, 1) := dk_42 (dk_at dksX4_massLine_4 3 rfl rfl)
theorem dX4_massLine_98 : decode cX4_massLine 98 = .ok (.getfield 148, 3) := dk_180 0 148 (dk_at dksX4_massLine_4 4 rfl rfl)
theorem dX4_massLine_101 : decode cX4_massLine 101 = .ok (.goto 8, 3) := dk_167 0 8 (dk_at dksX4_massLine_4 7 rfl rfl)
theorem dX4_massLine_104 : decode cX4_massLine 104 = .ok (.aload_n 0, 1) := dk_42 (dk_at dksX4_massLine_4 10 rfl rfl)
theorem dX4_massLine_105 : decode cX4_massLine 105 = .ok (.getfield 148, 3) := dk_180 0 148 (dk_at dksX4_massLine_4 11 rfl rfl)
theorem dX4_massLine_108 : decode cX4_massLine 108 = .ok (.ineg, 1) := dk_116 (dk_at dksX4_massLine_4 14 rfl rfl)
theorem dX4_massLine_109 : decode cX4_massLine 109 = .ok (.iadd, 1) := dk_96 (dk_at dksX4_massLine_4 15 rfl rfl)
theorem dX4_massLine_110 : decode cX4_massLine 110 = .ok (.istore_n 2, 1) := dk_61 (dk_at dksX4_massLine_4 16 rfl rfl)
theorem dX4_massLine_111 : decode cX4_massLine 111 = .ok (.aload_n 0, 1) := dk_42 (dk_at dksX4_massLine_4 17 rfl rfl)
theorem dX4_massLine_112 : decode cX4_massLine 112 = .ok (.getfield 61, 3) := dk_180 0 61 (dk_at dksX4_massLine_4 18 rfl rfl)
theorem dX4_massLine_115 : decode cX4_massLine 115 = .ok (.iload_n 1, 1) := dk_27 (dk_at dksX4_massLine_4 21 rfl rfl)
theorem dX4_massLine_116 : decode cX4_massLine 116 = .ok (.iload_n 2, 1) := dk_28 (dk_at dksX4_massLine_4 22 rfl rfl)
theorem dX4_massLine_117 : decode cX4_massLine 117 = .ok (.iastore, 1) := dk_79 (dk_at dksX4_massLine_4 23 rfl rfl)
theorem dX4_massLine_118 : decode cX4_massLine 118 = .ok (.aload_n 0, 1) := dk_42 (dk_at dksX4_massLine_5 0 rfl rfl)
theorem dX4_massLine_119 : decode cX4_massLine 119 = .ok (.dup, 1) := dk_89 (dk_at dksX4_massLine_5 1 rfl rfl)
theorem dX4_massLine_120 : decode cX4_massLine 120 = .ok (.getfield 169, 3) := dk_180 0 169 (dk_at dksX4_massLine_5 2 rfl rfl)
theorem dX4_massLine_123 : decode cX4_massLine 123 = .ok (.iconst 1, 1) := dk_4 (dk_at dksX4_massLine_5 5 rfl rfl)
theorem dX4_massLine_124 : decode cX4_massLine 124 = .ok (.iadd, 1) := dk_96 (dk_at dksX4_massLine_5 6 rfl rfl)
theorem dX4_massLine_125 : decode cX4_massLine 125 = .ok (.putfield 169, 3) := dk_181 0 169 (dk_at dksX4_massLine_5 7 rfl rfl)
theorem dX4_massLine_128 : decode cX4_massLine 128 = .ok (.iconst 1, 1) := dk_4 (dk_at dksX4_massLine_5 10 rfl rfl)
theorem dX4_massLine_129 : decode cX4_massLine 129 = .ok (.ireturn, 1) := dk_172 (dk_at dksX4_massLine_5 11 rfl rfl)
abbrev cX4_setLine : ByteArray := prog_21_method_17_code
def yX4_setLine : MethodName := ⟨RX4, "setLine", "()Z"⟩
def dkwX4_setLine_3 : List UInt8 := [180, 0, 180, 4, 96, 181, 0, 180, 4, 172]
abbrev dktX4_setLine_3 : List UInt8 := dkwX4_setLine_3 ++ []
def dkwX4_setLine_2 : List UInt8 := [27, 42, 18, 183, 182, 0, 174, 84, 42, 180, 0, 67, 27, 51, 153, 0, 7, 42, 182, 0, 151, 42, 89]
abbrev dktX4_setLine_2 : List UInt8 := dkwX4_setLine_2 ++ dktX4_setLine_3
def dkwX4_setLine_1 : List UInt8 := [16, 12, 182, 0, 164, 154, 0, 5, 3, 172, 42, 180, 0, 64, 27, 42, 180, 0, 148, 79, 42, 180, 0, 67]
abbrev dktX4_setLine_1 : List UInt8 := dkwX4_setLine_1 ++ dktX4_setLine_2
def dkwX4_setLine_0 : List UInt8 := [42, 180, 0, 180, 60, 42, 27, 7, 162, 0, 7, 4, 167, 0, 4, 3, 182, 0, 157, 153, 0, 13, 42, 5]
abbrev dktX4_setLine_0 : List UInt8 := dkwX4_setLine_0 ++ dktX4_setLine_1
theorem dksX4_setLine_0 : cX4_setLine.data.toList.drop 0 = dktX4_setLine_0 := by decide +kernel
theorem dksX4_setLine_1 : cX4_setLine.data.toList.drop 24 = dktX4_setLine_1 := dk_seg dksX4_setLine_0 24 rfl rfl
theorem dksX4_setLine_2 : cX4_setLine.data.toList.drop 48 = dktX4_setLine_2 := dk_seg dksX4_setLine_1 24 rfl rfl
theorem dksX4_setLine_3 : cX4_setLine.data.toList.drop 71 = dktX4_setLine_3 := dk_seg dksX4_setLine_2 23 rfl rfl
theorem dX4_setLine_0 : decode cX4_setLine 0 = .ok (.aload_n 0, 1) := dk_42 (dk_at dksX4_setLine_0 0 rfl rfl)
theorem dX4_setLine_1 : decode cX4_setLine 1 = .ok (.getfield 180, 3) := dk_180 0 180 (dk_at dksX4_setLine_0 1 rfl rfl)
theorem dX4_setLine_4 : decode cX4_setLine 4 = .ok (.istore_n 1, 1) := dk_60 (dk_at dksX4_setLine_0 4 rfl rfl)
theorem dX4_setLine_5 : decode cX4_setLine 5 = .ok (.aload_n 0, 1) := dk_42 (dk_at dksX4_setLine_0 5 rfl rfl)
theorem dX4_setLine_6 : decode cX4_setLine 6 = .ok (.iload_n 1, 1) := dk_27 (dk_at dksX4_setLine_0 6 rfl rfl)
theorem dX4_setLine_7 : decode cX4_setLine 7 = .ok (.iconst 4, 1) := dk_7 (dk_at dksX4_setLine_0 7 rfl rfl)
theorem dX4_setLine_8 : decode cX4_setLine 8 = .ok (.if_icmp .ge 7, 3) := dk_162 0 7 (dk_at dksX4_setLine_0 8 rfl rfl)
theorem dX4_setLine_11 : decode cX4_setLine 11 = .ok (.iconst 1, 1) := dk_4 (dk_at dksX4_setLine_0 11 rfl rfl)
theorem dX4_setLine_12 : decode cX4_setLine 12 = .ok (.goto 4, 3) := dk_167 0 4 (dk_at dksX4_setLine_0 12 rfl rfl)
theorem dX4_setLine_15 : decode cX4_setLine 15 = .ok (.iconst 0, 1) := dk_3 (dk_at dksX4_setLine_0 15 rfl rfl)
theorem dX4_setLine_16 : decode cX4_setLine 16 = .ok (.invokevirtual 157, 3) := dk_182 0 157 (dk_at dksX4_setLine_0 16 rfl rfl)
theorem dX4_setLine_19 : decode cX4_setLine 19 = .ok (.ifCond .eq 13, 3) := dk_153 0 13 (dk_at dksX4_setLine_0 19 rfl rfl)
theorem dX4_setLine_22 : decode cX4_setLine 22 = .ok (.aload_n 0, 1) := dk_42 (dk_at dksX4_setLine_0 22 rfl rfl)
theorem dX4_setLine_23 : decode cX4_setLine 23 = .ok (.iconst 2, 1) := dk_5 (dk_at dksX4_setLine_0 23 rfl rfl)
theorem dX4_setLine_24 : decode cX4_setLine 24 = .ok (.bipush 12, 2) := dk_16 12 (dk_at dksX4_setLine_1 0 rfl rfl)
theorem dX4_setLine_26 : decode cX4_setLine 26 = .ok (.invokevirtual 164, 3) := dk_182 0 164 (dk_at dksX4_setLine_1 2 rfl rfl)
theorem dX4_setLine_29 : decode cX4_setLine 29 = .ok (.ifCond .ne 5, 3) := dk_154 0 5 (dk_at dksX4_setLine_1 5 rfl rfl)
theorem dX4_setLine_32 : decode cX4_setLine 32 = .ok (.iconst 0, 1) := dk_3 (dk_at dksX4_setLine_1 8 rfl rfl)
theorem dX4_setLine_33 : decode cX4_setLine 33 = .ok (.ireturn, 1) := dk_172 (dk_at dksX4_setLine_1 9 rfl rfl)
theorem dX4_setLine_34 : decode cX4_setLine 34 = .ok (.aload_n 0, 1) := dk_42 (dk_at dksX4_setLine_1 10 rfl rfl)
theorem dX4_setLine_35 : decode cX4_setLine 35 = .ok (.getfield 64, 3) := dk_180 0 64 (dk_at dksX4_setLine_1 11 rfl rfl)
theorem dX4_setLine_38 : decode cX4_setLine 38 = .ok (.iload_n 1, 1) := dk_27 (dk_at dksX4_setLine_1 14 rfl rfl)
theorem dX4_setLine_39 : decode cX4_setLine 39 = .ok (.aload_n 0, 1) := dk_42 (dk_at dksX4_setLine_1 15 rfl rfl)
theorem dX4_setLine_40 : decode cX4_setLine 40 = .ok (.getfield 148, 3) := dk_180 0 148 (dk_at dksX4_setLine_1 16 rfl rfl)
theorem dX4_setLine_43 : decode cX4_setLine 43 = .ok (.iastore, 1) := dk_79 (dk_at dksX4_setLine_1 19 rfl rfl)
theorem dX4_setLine_44 : decode cX4_setLine 44 = .ok (.aload_n 0, 1) := dk_42 (dk_at dksX4_setLine_1 20 rfl rfl)
theorem dX4_setLine_45 : decode cX4_setLine 45 = .ok (.getfield 67, 3) := dk_180 0 67 (dk_at dksX4_setLine_1 21 rfl rfl)
theorem dX4_setLine_48 : decode cX4_setLine 48 = .ok (.iload_n 1, 1) := dk_27 (dk_at dksX4_setLine_2 0 rfl rfl)
theorem dX4_setLine_49 : decode cX4_setLine 49 = .ok (.aload_n 0, 1) := dk_42 (dk_at dksX4_setLine_2 1 rfl rfl)
theorem dX4_setLine_50 : decode cX4_setLine 50 = .ok (.ldc 183, 2) := dk_18 183 (dk_at dksX4_setLine_2 2 rfl rfl)
theorem dX4_setLine_52 : decode cX4_setLine 52 = .ok (.invokevirtual 174, 3) := dk_182 0 174 (dk_at dksX4_setLine_2 4 rfl rfl)
theorem dX4_setLine_55 : decode cX4_setLine 55 = .ok (.bastore, 1) := dk_84 (dk_at dksX4_setLine_2 7 rfl rfl)
theorem dX4_setLine_56 : decode cX4_setLine 56 = .ok (.aload_n 0, 1) := dk_42 (dk_at dksX4_setLine_2 8 rfl rfl)
theorem dX4_setLine_57 : decode cX4_setLine 57 = .ok (.getfield 67, 3) := dk_180 0 67 (dk_at dksX4_setLine_2 9 rfl rfl)
theorem dX4_setLine_60 : decode cX4_setLine 60 = .ok (.iload_n 1, 1) := dk_27 (dk_at dksX4_setLine_2 12 rfl rfl)
theorem dX4_setLine_61 : decode cX4_setLine 61 = .ok (.baload, 1) := dk_51 (dk_at dksX4_setLine_2 13 rfl rfl)
theorem dX4_setLine_62 : decode cX4_setLine 62 = .ok (.ifCond .eq 7, 3) := dk_153 0 7 (dk_at dksX4_setLine_2 14 rfl rfl)
theorem dX4_setLine_65 : decode cX4_setLine 65 = .ok (.aload_n 0, 1) := dk_42 (dk_at dksX4_setLine_2 17 rfl rfl)
theorem dX4_setLine_66 : decode cX4_setLine 66 = .ok (.invokevirtual 151, 3) := dk_182 0 151 (dk_at dksX4_setLine_2 18 rfl rfl)
theorem dX4_setLine_69 : decode cX4_setLine 69 = .ok (.aload_n 0, 1) := dk_42 (dk_at dksX4_setLine_2 21 rfl rfl)
theorem dX4_setLine_70 : decode cX4_setLine 70 = .ok (.dup, 1) := dk_89 (dk_at dksX4_setLine_2 22 rfl rfl)
theorem dX4_setLine_71 : decode cX4_setLine 71 = .ok (.getfield 180, 3) := dk_180 0 180 (dk_at dksX4_setLine_3 0 rfl rfl)
theorem dX4_setLine_74 : decode cX4_setLine 74 = .ok (.iconst 1, 1) := dk_4 (dk_at dksX4_setLine_3 3 rfl rfl)
theorem dX4_setLine_75 : decode cX4_setLine 75 = .ok (.iadd, 1) := dk_96 (dk_at dksX4_setLine_3 4 rfl rfl)
theorem dX4_setLine_76 : decode cX4_setLine 76 = .ok (.putfield 180, 3) := dk_181 0 180 (dk_at dksX4_setLine_3 5 rfl rfl)
theorem dX4_setLine_79 : decode cX4_setLine 79 = .ok (.iconst 1, 1) := dk_4 (dk_at dksX4_setLine_3 8 rfl rfl)
theorem dX4_setLine_80 : decode cX4_setLine 80 = .ok (.ireturn, 1) := dk_172 (dk_at dksX4_setLine_3 9 rfl rfl)
abbrev cX4_termLine : ByteArray := prog_21_method_18_code
def yX4_termLine : MethodName := ⟨RX4, "termLine", "()Z"⟩
def dkwX4_termLine_3 : List UInt8 := [180, 0, 148, 79, 4, 172]
abbrev dktX4_termLine_3 : List UInt8 := dkwX4_termLine_3 ++ []
def dkwX4_termLine_2 : List UInt8 := [172, 42, 180, 0, 148, 60, 42, 4, 8, 182, 0, 164, 154, 0, 5, 3, 172, 42, 180, 0, 70, 27, 42]
abbrev dktX4_termLine_2 : List UInt8 := dkwX4_termLine_2 ++ dktX4_termLine_3
def dkwX4_termLine_1 : List UInt8 := [42, 180, 0, 114, 46, 158, 0, 9, 42, 5, 182, 0, 144, 172, 42, 3, 5, 182, 0, 164, 154, 0, 5, 3]
abbrev dktX4_termLine_1 : List UInt8 := dkwX4_termLine_1 ++ dktX4_termLine_2
def dkwX4_termLine_0 : List UInt8 := [42, 182, 0, 151, 42, 180, 0, 117, 5, 160, 0, 29, 42, 180, 0, 114, 6, 162, 0, 21, 42, 180, 0, 70]
abbrev dktX4_termLine_0 : List UInt8 := dkwX4_termLine_0 ++ dktX4_termLine_1
theorem dksX4_termLine_0 : cX4_termLine.data.toList.drop 0 = dktX4_termLine_0 := by decide +kernel
theorem dksX4_termLine_1 : cX4_termLine.data.toList.drop 24 = dktX4_termLine_1 := dk_seg dksX4_termLine_0 24 rfl rfl
theorem dksX4_termLine_2 : cX4_termLine.data.toList.drop 48 = dktX4_termLine_2 := dk_seg dksX4_termLine_1 24 rfl rfl
theorem dksX4_termLine_3 : cX4_termLine.data.toList.drop 71 = dktX4_termLine_3 := dk_seg dksX4_termLine_2 23 rfl rfl
theorem dX4_termLine_0 : decode cX4_termLine 0 = .ok (.aload_n 0, 1) := dk_42 (dk_at dksX4_termLine_0 0 rfl rfl)
theorem dX4_termLine_1 : decode cX4_termLine 1 = .ok (.invokevirtual 151, 3) := dk_182 0 151 (dk_at dksX4_termLine_0 1 rfl rfl)
theorem dX4_termLine_4 : decode cX4_termLine 4 = .ok (.aload_n 0, 1) := dk_42 (dk_at dksX4_termLine_0 4 rfl rfl)
theorem dX4_termLine_5 : decode cX4_termLine 5 = .ok (.getfield 117, 3) := dk_180 0 117 (dk_at dksX4_termLine_0 5 rfl rfl)
theorem dX4_termLine_8 : decode cX4_termLine 8 = .ok (.iconst 2, 1) := dk_5 (dk_at dksX4_termLine_0 8 rfl rfl)
theorem dX4_termLine_9 : decode cX4_termLine 9 = .ok (.if_icmp .ne 29, 3) := dk_160 0 29 (dk_at dksX4_termLine_0 9 rfl rfl)
theorem dX4_termLine_12 : decode cX4_termLine 12 = .ok (.aload_n 0, 1) := dk_42 (dk_at dksX4_termLine_0 12 rfl rfl)
theorem dX4_termLine_13 : decode cX4_termLine 13 = .ok (.getfield 114, 3) := dk_180 0 114 (dk_at dksX4_termLine_0 13 rfl rfl)
theorem dX4_termLine_16 : decode cX4_termLine 16 = .ok (.iconst 3, 1) := dk_6 (dk_at dksX4_termLine_0 16 rfl rfl)
theorem dX4_termLine_17 : decode cX4_termLine 17 = .ok (.if_icmp .ge 21, 3) := dk_162 0 21 (dk_at dksX4_termLine_0 17 rfl rfl)
theorem dX4_termLine_20 : decode cX4_termLine 20 = .ok (.aload_n 0, 1) := dk_42 (dk_at dksX4_termLine_0 20 rfl rfl)
theorem dX4_termLine_21 : decode cX4_termLine 21 = .ok (.getfield 70, 3) := dk_180 0 70 (dk_at dksX4_termLine_0 21 rfl rfl)
theorem dX4_termLine_24 : decode cX4_termLine 24 = .ok (.aload_n 0, 1) := dk_42 (dk_at dksX4_termLine_1 0 rfl rfl)
theorem dX4_termLine_25 : decode cX4_termLine 25 = .ok (.getfield 114, 3) := dk_180 0 114 (dk_at dksX4_termLine_1 1 rfl rfl)
theorem dX4_termLine_28 : decode cX4_termLine 28 = .ok (.iaload, 1) := dk_46 (dk_at dksX4_termLine_1 4 rfl rfl)
theorem dX4_termLine_29 : decode cX4_termLine 29 = .ok (.ifCond .le 9, 3) := dk_158 0 9 (dk_at dksX4_termLine_1 5 rfl rfl)
theorem dX4_termLine_32 : decode cX4_termLine 32 = .ok (.aload_n 0, 1) := dk_42 (dk_at dksX4_termLine_1 8 rfl rfl)
theorem dX4_termLine_33 : decode cX4_termLine 33 = .ok (.iconst 2, 1) := dk_5 (dk_at dksX4_termLine_1 9 rfl rfl)
theorem dX4_termLine_34 : decode cX4_termLine 34 = .ok (.invokevirtual 144, 3) := dk_182 0 144 (dk_at dksX4_termLine_1 10 rfl rfl)
theorem dX4_termLine_37 : decode cX4_termLine 37 = .ok (.ireturn, 1) := dk_172 (dk_at dksX4_termLine_1 13 rfl rfl)
theorem dX4_termLine_38 : decode cX4_termLine 38 = .ok (.aload_n 0, 1) := dk_42 (dk_at dksX4_termLine_1 14 rfl rfl)
theorem dX4_termLine_39 : decode cX4_termLine 39 = .ok (.iconst 0, 1) := dk_3 (dk_at dksX4_termLine_1 15 rfl rfl)
theorem dX4_termLine_40 : decode cX4_termLine 40 = .ok (.iconst 2, 1) := dk_5 (dk_at dksX4_termLine_1 16 rfl rfl)
theorem dX4_termLine_41 : decode cX4_termLine 41 = .ok (.invokevirtual 164, 3) := dk_182 0 164 (dk_at dksX4_termLine_1 17 rfl rfl)
theorem dX4_termLine_44 : decode cX4_termLine 44 = .ok (.ifCond .ne 5, 3) := dk_154 0 5 (dk_at dksX4_termLine_1 20 rfl rfl)
theorem dX4_termLine_47 : decode cX4_termLine 47 = .ok (.iconst 0, 1) := dk_3 (dk_at dksX4_termLine_1 23 rfl rfl)
theorem dX4_termLine_48 : decode cX4_termLine 48 = .ok (.ireturn, 1) := dk_172 (dk_at dksX4_termLine_2 0 rfl rfl)
theorem dX4_termLine_49 : decode cX4_termLine 49 = .ok (.aload_n 0, 1) := dk_42 (dk_at dksX4_termLine_2 1 rfl rfl)
theorem dX4_termLine_50 : decode cX4_termLine 50 = .ok (.getfield 148, 3) := dk_180 0 148 (dk_at dksX4_termLine_2 2 rfl rfl)
theorem dX4_termLine_53 : decode cX4_termLine 53 = .ok (.istore_n 1, 1) := dk_60 (dk_at dksX4_termLine_2 5 rfl rfl)
theorem dX4_termLine_54 : decode cX4_termLine 54 = .ok (.aload_n 0, 1) := dk_42 (dk_at dksX4_termLine_2 6 rfl rfl)
theorem dX4_termLine_55 : decode cX4_termLine 55 = .ok (.iconst 1, 1) := dk_4 (dk_at dksX4_termLine_2 7 rfl rfl)
theorem dX4_termLine_56 : decode cX4_termLine 56 = .ok (.iconst 5, 1) := dk_8 (dk_at dksX4_termLine_2 8 rfl rfl)
theorem dX4_termLine_57 : decode cX4_termLine 57 = .ok (.invokevirtual 164, 3) := dk_182 0 164 (dk_at dksX4_termLine_2 9 rfl rfl)
theorem dX4_termLine_60 : decode cX4_termLine 60 = .ok (.ifCond .ne 5, 3) := dk_154 0 5 (dk_at dksX4_termLine_2 12 rfl rfl)
theorem dX4_termLine_63 : decode cX4_termLine 63 = .ok (.iconst 0, 1) := dk_3 (dk_at dksX4_termLine_2 15 rfl rfl)
theorem dX4_termLine_64 : decode cX4_termLine 64 = .ok (.ireturn, 1) := dk_172 (dk_at dksX4_termLine_2 16 rfl rfl)
theorem dX4_termLine_65 : decode cX4_termLine 65 = .ok (.aload_n 0, 1) := dk_42 (dk_at dksX4_termLine_2 17 rfl rfl)
theorem dX4_termLine_66 : decode cX4_termLine 66 = .ok (.getfield 70, 3) := dk_180 0 70 (dk_at dksX4_termLine_2 18 rfl rfl)
theorem dX4_termLine_69 : decode cX4_termLine 69 = .ok (.iload_n 1, 1) := dk_27 (dk_at dksX4_termLine_2 21 rfl rfl)
theorem dX4_termLine_70 : decode cX4_termLine 70 = .ok (.aload_n 0, 1) := dk_42 (dk_at dksX4_termLine_2 22 rfl rfl)
theorem dX4_termLine_71 : decode cX4_termLine 71 = .ok (.getfield 148, 3) := dk_180 0 148 (dk_at dksX4_termLine_3 0 rfl rfl)
theorem dX4_termLine_74 : decode cX4_termLine 74 = .ok (.iastore, 1) := dk_79 (dk_at dksX4_termLine_3 3 rfl rfl)
theorem dX4_termLine_75 : decode cX4_termLine 75 = .ok (.iconst 1, 1) := dk_4 (dk_at dksX4_termLine_3 4 rfl rfl)
theorem dX4_termLine_76 : decode cX4_termLine 76 = .ok (.ireturn, 1) := dk_172 (dk_at dksX4_termLine_3 5 rfl rfl)
abbrev cX4_becomes : ByteArray := prog_21_method_22_code
def yX4_becomes : MethodName := ⟨RX4, "becomes", "()V"⟩
def dkwX4_becomes_12 : List UInt8 := [3, 3, 84, 42, 180, 0, 91, 4, 3, 84, 177]
abbrev dktX4_becomes_12 : List UInt8 := dkwX4_becomes_12 ++ []
def dkwX4_becomes_11 : List UInt8 := [153, 0, 7, 4, 167, 0, 4, 3, 79, 132, 1, 1, 167, 255, 169, 42, 3, 181, 0, 231, 42, 180, 0, 91]
abbrev dktX4_becomes_11 : List UInt8 := dkwX4_becomes_11 ++ dktX4_becomes_12
def dkwX4_becomes_10 : List UInt8 := [17, 2, 149, 27, 96, 46, 79, 42, 180, 0, 13, 17, 2, 157, 27, 96, 42, 180, 0, 35, 27, 51]
abbrev dktX4_becomes_10 : List UInt8 := dkwX4_becomes_10 ++ dktX4_becomes_11
def dkwX4_becomes_9 : List UInt8 := [4, 42, 180, 0, 32, 27, 46, 120, 4, 100, 79, 42, 180, 0, 13, 17, 2, 153, 27, 96, 42, 180, 0, 13]
abbrev dktX4_becomes_9 : List UInt8 := dkwX4_becomes_9 ++ dktX4_becomes_10
def dkwX4_becomes_8 : List UInt8 := [162, 0, 85, 42, 180, 0, 35, 27, 42, 180, 0, 67, 27, 51, 84, 42, 180, 0, 13, 17, 2, 149, 27, 96]
abbrev dktX4_becomes_8 : List UInt8 := dkwX4_becomes_8 ++ dktX4_becomes_9
def dkwX4_becomes_7 : List UInt8 := [162, 0, 16, 42, 180, 0, 13, 27, 3, 79, 132, 1, 1, 167, 255, 239, 3, 60, 27, 42, 180, 0, 228]
abbrev dktX4_becomes_7 : List UInt8 := dkwX4_becomes_7 ++ dktX4_becomes_8
def dkwX4_becomes_6 : List UInt8 := [5, 167, 0, 9, 42, 180, 0, 70, 27, 46, 79, 132, 1, 1, 167, 255, 223, 3, 60, 27, 17, 2, 165]
abbrev dktX4_becomes_6 : List UInt8 := dkwX4_becomes_6 ++ dktX4_becomes_7
def dkwX4_becomes_5 : List UInt8 := [184, 0, 221, 3, 60, 27, 6, 162, 0, 34, 42, 180, 0, 39, 27, 42, 180, 0, 70, 27, 46, 154, 0, 7]
abbrev dktX4_becomes_5 : List UInt8 := dkwX4_becomes_5 ++ dktX4_becomes_6
def dkwX4_becomes_4 : List UInt8 := [16, 10, 184, 0, 221, 42, 42, 180, 0, 180, 181, 0, 228, 42, 180, 0, 64, 3, 42, 180, 0, 32, 3, 7]
abbrev dktX4_becomes_4 : List UInt8 := dkwX4_becomes_4 ++ dktX4_becomes_5
def dkwX4_becomes_3 : List UInt8 := [3, 16, 24, 184, 0, 221, 42, 42, 180, 0, 169, 181, 0, 225, 42, 180, 0, 61, 3, 42, 180, 0, 29, 3]
abbrev dktX4_becomes_3 : List UInt8 := dkwX4_becomes_3 ++ dktX4_becomes_4
def dkwX4_becomes_2 : List UInt8 := [42, 180, 0, 55, 3, 42, 180, 0, 23, 3, 16, 24, 184, 0, 221, 42, 180, 0, 58, 3, 42, 180, 0, 26]
abbrev dktX4_becomes_2 : List UInt8 := dkwX4_becomes_2 ++ dktX4_becomes_3
def dkwX4_becomes_1 : List UInt8 := [180, 0, 17, 3, 16, 24, 184, 0, 221, 42, 180, 0, 52, 3, 42, 180, 0, 20, 3, 16, 24, 184, 0, 221]
abbrev dktX4_becomes_1 : List UInt8 := dkwX4_becomes_1 ++ dktX4_becomes_2
def dkwX4_becomes_0 : List UInt8 := [42, 42, 180, 0, 154, 181, 0, 215, 42, 42, 180, 0, 161, 181, 0, 218, 42, 180, 0, 49, 3, 42]
abbrev dktX4_becomes_0 : List UInt8 := dkwX4_becomes_0 ++ dktX4_becomes_1
theorem dksX4_becomes_0 : cX4_becomes.data.toList.drop 0 = dktX4_becomes_0 := by decide +kernel
theorem dksX4_becomes_1 : cX4_becomes.data.toList.drop 22 = dktX4_becomes_1 := dk_seg dksX4_becomes_0 22 rfl rfl
theorem dksX4_becomes_2 : cX4_becomes.data.toList.drop 46 = dktX4_becomes_2 := dk_seg dksX4_becomes_1 24 rfl rfl
theorem dksX4_becomes_3 : cX4_becomes.data.toList.drop 70 = dktX4_becomes_3 := dk_seg dksX4_becomes_2 24 rfl rfl
theorem dksX4_becomes_4 : cX4_becomes.data.toList.drop 94 = dktX4_becomes_4 := dk_seg dksX4_becomes_3 24 rfl rfl
theorem dksX4_becomes_5 : cX4_becomes.data.toList.drop 118 = dktX4_becomes_5 := dk_seg dksX4_becomes_4 24 rfl rfl
theorem dksX4_becomes_6 : cX4_becomes.data.toList.drop 142 = dktX4_becomes_6 := dk_seg dksX4_becomes_5 24 rfl rfl
theorem dksX4_becomes_7 : cX4_becomes.data.toList.drop 165 = dktX4_becomes_7 := dk_seg dksX4_becomes_6 23 rfl rfl
theorem dksX4_becomes_8 : cX4_becomes.data.toList.drop 188 = dktX4_becomes_8 := dk_seg dksX4_becomes_7 23 rfl rfl
theorem dksX4_becomes_9 : cX4_becomes.data.toList.drop 212 = dktX4_becomes_9 := dk_seg dksX4_becomes_8 24 rfl rfl
theorem dksX4_becomes_10 : cX4_becomes.data.toList.drop 236 = dktX4_becomes_10 := dk_seg dksX4_becomes_9 24 rfl rfl
theorem dksX4_becomes_11 : cX4_becomes.data.toList.drop 258 = dktX4_becomes_11 := dk_seg dksX4_becomes_10 22 rfl rfl
theorem dksX4_becomes_12 : cX4_becomes.data.toList.drop 282 = dktX4_becomes_12 := dk_seg dksX4_becomes_11 24 rfl rfl
theorem dX4_becomes_0 : decode cX4_becomes 0 = .ok (.aload_n 0, 1) := dk_42 (dk_at dksX4_becomes_0 0 rfl rfl)
theorem dX4_becomes_1 : decode cX4_becomes 1 = .ok (.aload_n 0, 1) := dk_42 (dk_at dksX4_becomes_0 1 rfl rfl)
theorem dX4_becomes_2 : decode cX4_becomes 2 = .ok (.getfield 154, 3) := dk_180 0 154 (dk_at dksX4_becomes_0 2 rfl rfl)
theorem dX4_becomes_5 : decode cX4_becomes 5 = .ok (.putfield 215, 3) := dk_181 0 215 (dk_at dksX4_becomes_0 5 rfl rfl)
theorem dX4_becomes_8 : decode cX4_becomes 8 = .ok (.aload_n 0, 1) := dk_42 (dk_at dksX4_becomes_0 8 rfl rfl)
theorem dX4_becomes_9 : decode cX4_becomes 9 = .ok (.aload_n 0, 1) := dk_42 (dk_at dksX4_becomes_0 9 rfl rfl)
theorem dX4_becomes_10 : decode cX4_becomes 10 = .ok (.getfield 161, 3) := dk_180 0 161 (dk_at dksX4_becomes_0 10 rfl rfl)
theorem dX4_becomes_13 : decode cX4_becomes 13 = .ok (.putfield 218, 3) := dk_181 0 218 (dk_at dksX4_becomes_0 13 rfl rfl)
theorem dX4_becomes_16 : decode cX4_becomes 16 = .ok (.aload_n 0, 1) := dk_42 (dk_at dksX4_becomes_0 16 rfl rfl)
theorem dX4_becomes_17 : decode cX4_becomes 17 = .ok (.getfield 49, 3) := dk_180 0 49 (dk_at dksX4_becomes_0 17 rfl rfl)
theorem dX4_becomes_20 : decode cX4_becomes 20 = .ok (.iconst 0, 1) := dk_3 (dk_at dksX4_becomes_0 20 rfl rfl)
theorem dX4_becomes_21 : decode cX4_becomes 21 = .ok (.aload_n 0, 1) := dk_42 (dk_at dksX4_becomes_0 21 rfl rfl)
theorem dX4_becomes_22 : decode cX4_becomes 22 = .ok (.getfield 17, 3) := dk_180 0 17 (dk_at dksX4_becomes_1 0 rfl rfl)
theorem dX4_becomes_25 : decode cX4_becomes 25 = .ok (.iconst 0, 1) := dk_3 (dk_at dksX4_becomes_1 3 rfl rfl)
theorem dX4_becomes_26 : decode cX4_becomes 26 = .ok (.bipush 24, 2) := dk_16 24 (dk_at dksX4_becomes_1 4 rfl rfl)
theorem dX4_becomes_28 : decode cX4_becomes 28 = .ok (.invokestatic 221, 3) := dk_184 0 221 (dk_at dksX4_becomes_1 6 rfl rfl)
theorem dX4_becomes_31 : decode cX4_becomes 31 = .ok (.aload_n 0, 1) := dk_42 (dk_at dksX4_becomes_1 9 rfl rfl)
theorem dX4_becomes_32 : decode cX4_becomes 32 = .ok (.getfield 52, 3) := dk_180 0 52 (dk_at dksX4_becomes_1 10 rfl rfl)
theorem dX4_becomes_35 : decode cX4_becomes 35 = .ok (.iconst 0, 1) := dk_3 (dk_at dksX4_becomes_1 13 rfl rfl)
theorem dX4_becomes_36 : decode cX4_becomes 36 = .ok (.aload_n 0, 1) := dk_42 (dk_at dksX4_becomes_1 14 rfl rfl)
theorem dX4_becomes_37 : decode cX4_becomes 37 = .ok (.getfield 20, 3) := dk_180 0 20 (dk_at dksX4_becomes_1 15 rfl rfl)
theorem dX4_becomes_40 : decode cX4_becomes 40 = .ok (.iconst 0, 1) := dk_3 (dk_at dksX4_becomes_1 18 rfl rfl)
theorem dX4_becomes_41 : decode cX4_becomes 41 = .ok (.bipush 24, 2) := dk_16 24 (dk_at dksX4_becomes_1 19 rfl rfl)
theorem dX4_becomes_43 : decode cX4_becomes 43 = .ok (.invokestatic 221, 3) := dk_184 0 221 (dk_at dksX4_becomes_1 21 rfl rfl)
theorem dX4_becomes_46 : decode cX4_becomes 46 = .ok (.aload_n 0, 1) := dk_42 (dk_at dksX4_becomes_2 0 rfl rfl)
theorem dX4_becomes_47 : decode cX4_becomes 47 = .ok (.getfield 55, 3) := dk_180 0 55 (dk_at dksX4_becomes_2 1 rfl rfl)
theorem dX4_becomes_50 : decode cX4_becomes 50 = .ok (.iconst 0, 1) := dk_3 (dk_at dksX4_becomes_2 4 rfl rfl)
theorem dX4_becomes_51 : decode cX4_becomes 51 = .ok (.aload_n 0, 1) := dk_42 (dk_at dksX4_becomes_2 5 rfl rfl)
theorem dX4_becomes_52 : decode cX4_becomes 52 = .ok (.getfield 23, 3) := dk_180 0 23 (dk_at dksX4_becomes_2 6 rfl rfl)
theorem dX4_becomes_55 : decode cX4_becomes 55 = .ok (.iconst 0, 1) := dk_3 (dk_at dksX4_becomes_2 9 rfl rfl)
theorem dX4_becomes_56 : decode cX4_becomes 56 = .ok (.bipush 24, 2) := dk_16 24 (dk_at dksX4_becomes_2 10 rfl rfl)
theorem dX4_becomes_58 : decode cX4_becomes 58 = .ok (.invokestatic 221, 3) := dk_184 0 221 (dk_at dksX4_becomes_2 12 rfl rfl)
theorem dX4_becomes_61 : decode cX4_becomes 61 = .ok (.aload_n 0, 1) := dk_42 (dk_at dksX4_becomes_2 15 rfl rfl)
theorem dX4_becomes_62 : decode cX4_becomes 62 = .ok (.getfield 58, 3) := dk_180 0 58 (dk_at dksX4_becomes_2 16 rfl rfl)
theorem dX4_becomes_65 : decode cX4_becomes 65 = .ok (.iconst 0, 1) := dk_3 (dk_at dksX4_becomes_2 19 rfl rfl)
theorem dX4_becomes_66 : decode cX4_becomes 66 = .ok (.aload_n 0, 1) := dk_42 (dk_at dksX4_becomes_2 20 rfl rfl)
theorem dX4_becomes_67 : decode cX4_becomes 67 = .ok (.getfield 26, 3) := dk_180 0 26 (dk_at dksX4_becomes_2 21 rfl rfl)
theorem dX4_becomes_70 : decode cX4_becomes 70 = .ok (.iconst 0, 1) := dk_3 (dk_at dksX4_becomes_3 0 rfl rfl)
theorem dX4_becomes_71 : decode cX4_becomes 71 = .ok (.bipush 24, 2) := dk_16 24 (dk_at dksX4_becomes_3 1 rfl rfl)
theorem dX4_becomes_73 : decode cX4_becomes 73 = .ok (.invokestatic 221, 3) := dk_184 0 221 (dk_at dksX4_becomes_3 3 rfl rfl)
theorem dX4_becomes_76 : decode cX4_becomes 76 = .ok (.aload_n 0, 1) := dk_42 (dk_at dksX4_becomes_3 6 rfl rfl)
theorem dX4_becomes_77 : decode cX4_becomes 77 = .ok (.aload_n 0, 1) := dk_42 (dk_at dksX4_becomes_3 7 rfl rfl)
theorem dX4_becomes_78 : decode cX4_becomes 78 = .ok (.getfield 169, 3) := dk_180 0 169 (dk_at dksX4_becomes_3 8 rfl rfl)
theorem dX4_becomes_81 : decode cX4_becomes 81 = .ok (.putfield 225, 3) := dk_181 0 225 (dk_at dksX4_becomes_3 11 rfl rfl)
theorem dX4_becomes_84 : decode cX4_becomes 84 = .ok (.aload_n 0, 1) := dk_42 (dk_at dksX4_becomes_3 14 rfl rfl)
theorem dX4_becomes_85 : decode cX4_becomes 85 = .ok (.getfield 61, 3) := dk_180 0 61 (dk_at dksX4_becomes_3 15 rfl rfl)
theorem dX4_becomes_88 : decode cX4_becomes 88 = .ok (.iconst 0, 1) := dk_3 (dk_at dksX4_becomes_3 18 rfl rfl)
theorem dX4_becomes_89 : decode cX4_becomes 89 = .ok (.aload_n 0, 1) := dk_42 (dk_at dksX4_becomes_3 19 rfl rfl)
theorem dX4_becomes_90 : decode cX4_becomes 90 = .ok (.getfield 29, 3) := dk_180 0 29 (dk_at dksX4_becomes_3 20 rfl rfl)
theorem dX4_becomes_93 : decode cX4_becomes 93 = .ok (.iconst 0, 1) := dk_3 (dk_at dksX4_becomes_3 23 rfl rfl)
theorem dX4_becomes_94 : decode cX4_becomes 94 = .ok (.bipush 10, 2) := dk_16 10 (dk_at dksX4_becomes_4 0 rfl rfl)
theorem dX4_becomes_96 : decode cX4_becomes 96 = .ok (.invokestatic 221, 3) := dk_184 0 221 (dk_at dksX4_becomes_4 2 rfl rfl)
theorem dX4_becomes_99 : decode cX4_becomes 99 = .ok (.aload_n 0, 1) := dk_42 (dk_at dksX4_becomes_4 5 rfl rfl)
theorem dX4_becomes_100 : decode cX4_becomes 100 = .ok (.aload_n 0, 1) := dk_42 (dk_at dksX4_becomes_4 6 rfl rfl)
theorem dX4_becomes_101 : decode cX4_becomes 101 = .ok (.getfield 180, 3) := dk_180 0 180 (dk_at dksX4_becomes_4 7 rfl rfl)
theorem dX4_becomes_104 : decode cX4_becomes 104 = .ok (.putfield 228, 3) := dk_181 0 228 (dk_at dksX4_becomes_4 10 rfl rfl)
theorem dX4_becomes_107 : decode cX4_becomes 107 = .ok (.aload_n 0, 1) := dk_42 (dk_at dksX4_becomes_4 13 rfl rfl)
theorem dX4_becomes_108 : decode cX4_becomes 108 = .ok (.getfield 64, 3) := dk_180 0 64 (dk_at dksX4_becomes_4 14 rfl rfl)
theorem dX4_becomes_111 : decode cX4_becomes 111 = .ok (.iconst 0, 1) := dk_3 (dk_at dksX4_becomes_4 17 rfl rfl)
theorem dX4_becomes_112 : decode cX4_becomes 112 = .ok (.aload_n 0, 1) := dk_42 (dk_at dksX4_becomes_4 18 rfl rfl)
theorem dX4_becomes_113 : decode cX4_becomes 113 = .ok (.getfield 32, 3) := dk_180 0 32 (dk_at dksX4_becomes_4 19 rfl rfl)
theorem dX4_becomes_116 : decode cX4_becomes 116 = .ok (.iconst 0, 1) := dk_3 (dk_at dksX4_becomes_4 22 rfl rfl)
theorem dX4_becomes_117 : decode cX4_becomes 117 = .ok (.iconst 4, 1) := dk_7 (dk_at dksX4_becomes_4 23 rfl rfl)
theorem dX4_becomes_118 : decode cX4_becomes 118 = .ok (.invokestatic 221, 3) := dk_184 0 221 (dk_at dksX4_becomes_5 0 rfl rfl)
theorem dX4_becomes_121 : decode cX4_becomes 121 = .ok (.iconst 0, 1) := dk_3 (dk_at dksX4_becomes_5 3 rfl rfl)
theorem dX4_becomes_122 : decode cX4_becomes 122 = .ok (.istore_n 1, 1) := dk_60 (dk_at dksX4_becomes_5 4 rfl rfl)
theorem dX4_becomes_123 : decode cX4_becomes 123 = .ok (.iload_n 1, 1) := dk_27 (dk_at dksX4_becomes_5 5 rfl rfl)
theorem dX4_becomes_124 : decode cX4_becomes 124 = .ok (.iconst 3, 1) := dk_6 (dk_at dksX4_becomes_5 6 rfl rfl)
theorem dX4_becomes_125 : decode cX4_becomes 125 = .ok (.if_icmp .ge 34, 3) := dk_162 0 34 (dk_at dksX4_becomes_5 7 rfl rfl)
theorem dX4_becomes_128 : decode cX4_becomes 128 = .ok (.aload_n 0, 1) := dk_42 (dk_at dksX4_becomes_5 10 rfl rfl)
theorem dX4_becomes_129 : decode cX4_becomes 129 = .ok (.getfield 39, 3) := dk_180 0 39 (dk_at dksX4_becomes_5 11 rfl rfl)
theorem dX4_becomes_132 : decode cX4_becomes 132 = .ok (.iload_n 1, 1) := dk_27 (dk_at dksX4_becomes_5 14 rfl rfl)
theorem dX4_becomes_133 : decode cX4_becomes 133 = .ok (.aload_n 0, 1) := dk_42 (dk_at dksX4_becomes_5 15 rfl rfl)
theorem dX4_becomes_134 : decode cX4_becomes 134 = .ok (.getfield 70, 3) := dk_180 0 70 (dk_at dksX4_becomes_5 16 rfl rfl)
theorem dX4_becomes_137 : decode cX4_becomes 137 = .ok (.iload_n 1, 1) := dk_27 (dk_at dksX4_becomes_5 19 rfl rfl)
theorem dX4_becomes_138 : decode cX4_becomes 138 = .ok (.iaload, 1) := dk_46 (dk_at dksX4_becomes_5 20 rfl rfl)
theorem dX4_becomes_139 : decode cX4_becomes 139 = .ok (.ifCond .ne 7, 3) := dk_154 0 7 (dk_at dksX4_becomes_5 21 rfl rfl)
theorem dX4_becomes_142 : decode cX4_becomes 142 = .ok (.iconst 2, 1) := dk_5 (dk_at dksX4_becomes_6 0 rfl rfl)
theorem dX4_becomes_143 : decode cX4_becomes 143 = .ok (.goto 9, 3) := dk_167 0 9 (dk_at dksX4_becomes_6 1 rfl rfl)
theorem dX4_becomes_146 : decode cX4_becomes 146 = .ok (.aload_n 0, 1) := dk_42 (dk_at dksX4_becomes_6 4 rfl rfl)
theorem dX4_becomes_147 : decode cX4_becomes 147 = .ok (.getfield 70, 3) := dk_180 0 70 (dk_at dksX4_becomes_6 5 rfl rfl)
theorem dX4_becomes_150 : decode cX4_becomes 150 = .ok (.iload_n 1, 1) := dk_27 (dk_at dksX4_becomes_6 8 rfl rfl)
theorem dX4_becomes_151 : decode cX4_becomes 151 = .ok (.iaload, 1) := dk_46 (dk_at dksX4_becomes_6 9 rfl rfl)
theorem dX4_becomes_152 : decode cX4_becomes 152 = .ok (.iastore, 1) := dk_79 (dk_at dksX4_becomes_6 10 rfl rfl)
theorem dX4_becomes_153 : decode cX4_becomes 153 = .ok (.iinc 1 1, 3) := dk_132 1 1 (dk_at dksX4_becomes_6 11 rfl rfl)
theorem dX4_becomes_156 : decode cX4_becomes 156 = .ok (.goto (-33), 3) := dk_167 255 223 (dk_at dksX4_becomes_6 14 rfl rfl)
theorem dX4_becomes_159 : decode cX4_becomes 159 = .ok (.iconst 0, 1) := dk_3 (dk_at dksX4_becomes_6 17 rfl rfl)
theorem dX4_becomes_160 : decode cX4_becomes 160 = .ok (.istore_n 1, 1) := dk_60 (dk_at dksX4_becomes_6 18 rfl rfl)
theorem dX4_becomes_161 : decode cX4_becomes 161 = .ok (.iload_n 1, 1) := dk_27 (dk_at dksX4_becomes_6 19 rfl rfl)
theorem dX4_becomes_162 : decode cX4_becomes 162 = .ok (.sipush 677, 3) := dk_17 2 165 (dk_at dksX4_becomes_6 20 rfl rfl)
theorem dX4_becomes_165 : decode cX4_becomes 165 = .ok (.if_icmp .ge 16, 3) := dk_162 0 16 (dk_at dksX4_becomes_7 0 rfl rfl)
theorem dX4_becomes_168 : decode cX4_becomes 168 = .ok (.aload_n 0, 1) := dk_42 (dk_at dksX4_becomes_7 3 rfl rfl)
theorem dX4_becomes_169 : decode cX4_becomes 169 = .ok (.getfield 13, 3) := dk_180 0 13 (dk_at dksX4_becomes_7 4 rfl rfl)
theorem dX4_becomes_172 : decode cX4_becomes 172 = .ok (.iload_n 1, 1) := dk_27 (dk_at dksX4_becomes_7 7 rfl rfl)
theorem dX4_becomes_173 : decode cX4_becomes 173 = .ok (.iconst 0, 1) := dk_3 (dk_at dksX4_becomes_7 8 rfl rfl)
theorem dX4_becomes_174 : decode cX4_becomes 174 = .ok (.iastore, 1) := dk_79 (dk_at dksX4_becomes_7 9 rfl rfl)
theorem dX4_becomes_175 : decode cX4_becomes 175 = .ok (.iinc 1 1, 3) := dk_132 1 1 (dk_at dksX4_becomes_7 10 rfl rfl)
theorem dX4_becomes_178 : decode cX4_becomes 178 = .ok (.goto (-17), 3) := dk_167 255 239 (dk_at dksX4_becomes_7 13 rfl rfl)
theorem dX4_becomes_181 : decode cX4_becomes 181 = .ok (.iconst 0, 1) := dk_3 (dk_at dksX4_becomes_7 16 rfl rfl)
theorem dX4_becomes_182 : decode cX4_becomes 182 = .ok (.istore_n 1, 1) := dk_60 (dk_at dksX4_becomes_7 17 rfl rfl)
theorem dX4_becomes_183 : decode cX4_becomes 183 = .ok (.iload_n 1, 1) := dk_27 (dk_at dksX4_becomes_7 18 rfl rfl)
theorem dX4_becomes_184 : decode cX4_becomes 184 = .ok (.aload_n 0, 1) := dk_42 (dk_at dksX4_becomes_7 19 rfl rfl)
theorem dX4_becomes_185 : decode cX4_becomes 185 = .ok (.getfield 228, 3) := dk_180 0 228 (dk_at dksX4_becomes_7 20 rfl rfl)
theorem dX4_becomes_188 : decode cX4_becomes 188 = .ok (.if_icmp .ge 85, 3) := dk_162 0 85 (dk_at dksX4_becomes_8 0 rfl rfl)
theorem dX4_becomes_191 : decode cX4_becomes 191 = .ok (.aload_n 0, 1) := dk_42 (dk_at dksX4_becomes_8 3 rfl rfl)
theorem dX4_becomes_192 : decode cX4_becomes 192 = .ok (.getfield 35, 3) := dk_180 0 35 (dk_at dksX4_becomes_8 4 rfl rfl)
theorem dX4_becomes_195 : decode cX4_becomes 195 = .ok (.iload_n 1, 1) := dk_27 (dk_at dksX4_becomes_8 7 rfl rfl)
theorem dX4_becomes_196 : decode cX4_becomes 196 = .ok (.aload_n 0, 1) := dk_42 (dk_at dksX4_becomes_8 8 rfl rfl)
theorem dX4_becomes_197 : decode cX4_becomes 197 = .ok (.getfield 67, 3) := dk_180 0 67 (dk_at dksX4_becomes_8 9 rfl rfl)
theorem dX4_becomes_200 : decode cX4_becomes 200 = .ok (.iload_n 1, 1) := dk_27 (dk_at dksX4_becomes_8 12 rfl rfl)
theorem dX4_becomes_201 : decode cX4_becomes 201 = .ok (.baload, 1) := dk_51 (dk_at dksX4_becomes_8 13 rfl rfl)
theorem dX4_becomes_202 : decode cX4_becomes 202 = .ok (.bastore, 1) := dk_84 (dk_at dksX4_becomes_8 14 rfl rfl)
theorem dX4_becomes_203 : decode cX4_becomes 203 = .ok (.aload_n 0, 1) := dk_42 (dk_at dksX4_becomes_8 15 rfl rfl)
theorem dX4_becomes_204 : decode cX4_becomes 204 = .ok (.getfield 13, 3) := dk_180 0 13 (dk_at dksX4_becomes_8 16 rfl rfl)
theorem dX4_becomes_207 : decode cX4_becomes 207 = .ok (.sipush 661, 3) := dk_17 2 149 (dk_at dksX4_becomes_8 19 rfl rfl)
theorem dX4_becomes_210 : decode cX4_becomes 210 = .ok (.iload_n 1, 1) := dk_27 (dk_at dksX4_becomes_8 22 rfl rfl)
theorem dX4_becomes_211 : decode cX4_becomes 211 = .ok (.iadd, 1) := dk_96 (dk_at dksX4_becomes_8 23 rfl rfl)
theorem dX4_becomes_212 : decode cX4_becomes 212 = .ok (.iconst 1, 1) := dk_4 (dk_at dksX4_becomes_9 0 rfl rfl)
theorem dX4_becomes_213 : decode cX4_becomes 213 = .ok (.aload_n 0, 1) := dk_42 (dk_at dksX4_becomes_9 1 rfl rfl)
theorem dX4_becomes_214 : decode cX4_becomes 214 = .ok (.getfield 32, 3) := dk_180 0 32 (dk_at dksX4_becomes_9 2 rfl rfl)
theorem dX4_becomes_217 : decode cX4_becomes 217 = .ok (.iload_n 1, 1) := dk_27 (dk_at dksX4_becomes_9 5 rfl rfl)
theorem dX4_becomes_218 : decode cX4_becomes 218 = .ok (.iaload, 1) := dk_46 (dk_at dksX4_becomes_9 6 rfl rfl)
theorem dX4_becomes_219 : decode cX4_becomes 219 = .ok (.ishl, 1) := dk_120 (dk_at dksX4_becomes_9 7 rfl rfl)
theorem dX4_becomes_220 : decode cX4_becomes 220 = .ok (.iconst 1, 1) := dk_4 (dk_at dksX4_becomes_9 8 rfl rfl)
theorem dX4_becomes_221 : decode cX4_becomes 221 = .ok (.isub, 1) := dk_100 (dk_at dksX4_becomes_9 9 rfl rfl)
theorem dX4_becomes_222 : decode cX4_becomes 222 = .ok (.iastore, 1) := dk_79 (dk_at dksX4_becomes_9 10 rfl rfl)
theorem dX4_becomes_223 : decode cX4_becomes 223 = .ok (.aload_n 0, 1) := dk_42 (dk_at dksX4_becomes_9 11 rfl rfl)
theorem dX4_becomes_224 : decode cX4_becomes 224 = .ok (.getfield 13, 3) := dk_180 0 13 (dk_at dksX4_becomes_9 12 rfl rfl)
theorem dX4_becomes_227 : decode cX4_becomes 227 = .ok (.sipush 665, 3) := dk_17 2 153 (dk_at dksX4_becomes_9 15 rfl rfl)
theorem dX4_becomes_230 : decode cX4_becomes 230 = .ok (.iload_n 1, 1) := dk_27 (dk_at dksX4_becomes_9 18 rfl rfl)
theorem dX4_becomes_231 : decode cX4_becomes 231 = .ok (.iadd, 1) := dk_96 (dk_at dksX4_becomes_9 19 rfl rfl)
theorem dX4_becomes_232 : decode cX4_becomes 232 = .ok (.aload_n 0, 1) := dk_42 (dk_at dksX4_becomes_9 20 rfl rfl)
theorem dX4_becomes_233 : decode cX4_becomes 233 = .ok (.getfield 13, 3) := dk_180 0 13 (dk_at dksX4_becomes_9 21 rfl rfl)
theorem dX4_becomes_236 : decode cX4_becomes 236 = .ok (.sipush 661, 3) := dk_17 2 149 (dk_at dksX4_becomes_10 0 rfl rfl)
theorem dX4_becomes_239 : decode cX4_becomes 239 = .ok (.iload_n 1, 1) := dk_27 (dk_at dksX4_becomes_10 3 rfl rfl)
theorem dX4_becomes_240 : decode cX4_becomes 240 = .ok (.iadd, 1) := dk_96 (dk_at dksX4_becomes_10 4 rfl rfl)
theorem dX4_becomes_241 : decode cX4_becomes 241 = .ok (.iaload, 1) := dk_46 (dk_at dksX4_becomes_10 5 rfl rfl)
theorem dX4_becomes_242 : decode cX4_becomes 242 = .ok (.iastore, 1) := dk_79 (dk_at dksX4_becomes_10 6 rfl rfl)
theorem dX4_becomes_243 : decode cX4_becomes 243 = .ok (.aload_n 0, 1) := dk_42 (dk_at dksX4_becomes_10 7 rfl rfl)
theorem dX4_becomes_244 : decode cX4_becomes 244 = .ok (.getfield 13, 3) := dk_180 0 13 (dk_at dksX4_becomes_10 8 rfl rfl)
theorem dX4_becomes_247 : decode cX4_becomes 247 = .ok (.sipush 669, 3) := dk_17 2 157 (dk_at dksX4_becomes_10 11 rfl rfl)
theorem dX4_becomes_250 : decode cX4_becomes 250 = .ok (.iload_n 1, 1) := dk_27 (dk_at dksX4_becomes_10 14 rfl rfl)
theorem dX4_becomes_251 : decode cX4_becomes 251 = .ok (.iadd, 1) := dk_96 (dk_at dksX4_becomes_10 15 rfl rfl)
theorem dX4_becomes_252 : decode cX4_becomes 252 = .ok (.aload_n 0, 1) := dk_42 (dk_at dksX4_becomes_10 16 rfl rfl)
theorem dX4_becomes_253 : decode cX4_becomes 253 = .ok (.getfield 35, 3) := dk_180 0 35 (dk_at dksX4_becomes_10 17 rfl rfl)
theorem dX4_becomes_256 : decode cX4_becomes 256 = .ok (.iload_n 1, 1) := dk_27 (dk_at dksX4_becomes_10 20 rfl rfl)
theorem dX4_becomes_257 : decode cX4_becomes 257 = .ok (.baload, 1) := dk_51 (dk_at dksX4_becomes_10 21 rfl rfl)
theorem dX4_becomes_258 : decode cX4_becomes 258 = .ok (.ifCond .eq 7, 3) := dk_153 0 7 (dk_at dksX4_becomes_11 0 rfl rfl)
theorem dX4_becomes_261 : decode cX4_becomes 261 = .ok (.iconst 1, 1) := dk_4 (dk_at dksX4_becomes_11 3 rfl rfl)
theorem dX4_becomes_262 : decode cX4_becomes 262 = .ok (.goto 4, 3) := dk_167 0 4 (dk_at dksX4_becomes_11 4 rfl rfl)
theorem dX4_becomes_265 : decode cX4_becomes 265 = .ok (.iconst 0, 1) := dk_3 (dk_at dksX4_becomes_11 7 rfl rfl)
theorem dX4_becomes_266 : decode cX4_becomes 266 = .ok (.iastore, 1) := dk_79 (dk_at dksX4_becomes_11 8 rfl rfl)
theorem dX4_becomes_267 : decode cX4_becomes 267 = .ok (.iinc 1 1, 3) := dk_132 1 1 (dk_at dksX4_becomes_11 9 rfl rfl)
theorem dX4_becomes_270 : decode cX4_becomes 270 = .ok (.goto (-87), 3) := dk_167 255 169 (dk_at dksX4_becomes_11 12 rfl rfl)
theorem dX4_becomes_273 : decode cX4_becomes 273 = .ok (.aload_n 0, 1) := dk_42 (dk_at dksX4_becomes_11 15 rfl rfl)
theorem dX4_becomes_274 : decode cX4_becomes 274 = .ok (.iconst 0, 1) := dk_3 (dk_at dksX4_becomes_11 16 rfl rfl)
theorem dX4_becomes_275 : decode cX4_becomes 275 = .ok (.putfield 231, 3) := dk_181 0 231 (dk_at dksX4_becomes_11 17 rfl rfl)
theorem dX4_becomes_278 : decode cX4_becomes 278 = .ok (.aload_n 0, 1) := dk_42 (dk_at dksX4_becomes_11 20 rfl rfl)
theorem dX4_becomes_279 : decode cX4_becomes 279 = .ok (.getfield 91, 3) := dk_180 0 91 (dk_at dksX4_becomes_11 21 rfl rfl)
theorem dX4_becomes_282 : decode cX4_becomes 282 = .ok (.iconst 0, 1) := dk_3 (dk_at dksX4_becomes_12 0 rfl rfl)
theorem dX4_becomes_283 : decode cX4_becomes 283 = .ok (.iconst 0, 1) := dk_3 (dk_at dksX4_becomes_12 1 rfl rfl)
theorem dX4_becomes_284 : decode cX4_becomes 284 = .ok (.bastore, 1) := dk_84 (dk_at dksX4_becomes_12 2 rfl rfl)
theorem dX4_becomes_285 : decode cX4_becomes 285 = .ok (.aload_n 0, 1) := dk_42 (dk_at dksX4_becomes_12 3 rfl rfl)
theorem dX4_becomes_286 : decode cX4_becomes 286 = .ok (.getfield 91, 3) := dk_180 0 91 (dk_at dksX4_becomes_12 4 rfl rfl)
theorem dX4_becomes_289 : decode cX4_becomes 289 = .ok (.iconst 1, 1) := dk_4 (dk_at dksX4_becomes_12 7 rfl rfl)
theorem dX4_becomes_290 : decode cX4_becomes 290 = .ok (.iconst 0, 1) := dk_3 (dk_at dksX4_becomes_12 8 rfl rfl)
theorem dX4_becomes_291 : decode cX4_becomes 291 = .ok (.bastore, 1) := dk_84 (dk_at dksX4_becomes_12 9 rfl rfl)
theorem dX4_becomes_292 : decode cX4_becomes 292 = .ok (.return_, 1) := dk_177 (dk_at dksX4_becomes_12 10 rfl rfl)
abbrev cX4_copies : ByteArray := prog_21_method_21_code
def yX4_copies : MethodName := ⟨RX4, "copies", "([II[III)V"⟩
def dkwX4_copies_1 : List UInt8 := [132, 5, 1, 167, 255, 234, 177]
abbrev dktX4_copies_1 : List UInt8 := dkwX4_copies_1 ++ []
def dkwX4_copies_0 : List UInt8 := [3, 54, 5, 21, 5, 21, 4, 162, 0, 21, 44, 29, 21, 5, 96, 42, 27, 21, 5, 96, 46, 79]
abbrev dktX4_copies_0 : List UInt8 := dkwX4_copies_0 ++ dktX4_copies_1
theorem dksX4_copies_0 : cX4_copies.data.toList.drop 0 = dktX4_copies_0 := by decide +kernel
theorem dksX4_copies_1 : cX4_copies.data.toList.drop 22 = dktX4_copies_1 := dk_seg dksX4_copies_0 22 rfl rfl
theorem dX4_copies_0 : decode cX4_copies 0 = .ok (.iconst 0, 1) := dk_3 (dk_at dksX4_copies_0 0 rfl rfl)
theorem dX4_copies_1 : decode cX4_copies 1 = .ok (.istore 5, 2) := dk_54 5 (dk_at dksX4_copies_0 1 rfl rfl)
theorem dX4_copies_3 : decode cX4_copies 3 = .ok (.iload 5, 2) := dk_21 5 (dk_at dksX4_copies_0 3 rfl rfl)
theorem dX4_copies_5 : decode cX4_copies 5 = .ok (.iload 4, 2) := dk_21 4 (dk_at dksX4_copies_0 5 rfl rfl)
theorem dX4_copies_7 : decode cX4_copies 7 = .ok (.if_icmp .ge 21, 3) := dk_162 0 21 (dk_at dksX4_copies_0 7 rfl rfl)
theorem dX4_copies_10 : decode cX4_copies 10 = .ok (.aload_n 2, 1) := dk_44 (dk_at dksX4_copies_0 10 rfl rfl)
theorem dX4_copies_11 : decode cX4_copies 11 = .ok (.iload_n 3, 1) := dk_29 (dk_at dksX4_copies_0 11 rfl rfl)
theorem dX4_copies_12 : decode cX4_copies 12 = .ok (.iload 5, 2) := dk_21 5 (dk_at dksX4_copies_0 12 rfl rfl)
theorem dX4_copies_14 : decode cX4_copies 14 = .ok (.iadd, 1) := dk_96 (dk_at dksX4_copies_0 14 rfl rfl)
theorem dX4_copies_15 : decode cX4_copies 15 = .ok (.aload_n 0, 1) := dk_42 (dk_at dksX4_copies_0 15 rfl rfl)
theorem dX4_copies_16 : decode cX4_copies 16 = .ok (.iload_n 1, 1) := dk_27 (dk_at dksX4_copies_0 16 rfl rfl)
theorem dX4_copies_17 : decode cX4_copies 17 = .ok (.iload 5, 2) := dk_21 5 (dk_at dksX4_copies_0 17 rfl rfl)
theorem dX4_copies_19 : decode cX4_copies 19 = .ok (.iadd, 1) := dk_96 (dk_at dksX4_copies_0 19 rfl rfl)
theorem dX4_copies_20 : decode cX4_copies 20 = .ok (.iaload, 1) := dk_46 (dk_at dksX4_copies_0 20 rfl rfl)
theorem dX4_copies_21 : decode cX4_copies 21 = .ok (.iastore, 1) := dk_79 (dk_at dksX4_copies_0 21 rfl rfl)
theorem dX4_copies_22 : decode cX4_copies 22 = .ok (.iinc 5 1, 3) := dk_132 5 1 (dk_at dksX4_copies_1 0 rfl rfl)
theorem dX4_copies_25 : decode cX4_copies 25 = .ok (.goto (-22), 3) := dk_167 255 234 (dk_at dksX4_copies_1 3 rfl rfl)
theorem dX4_copies_28 : decode cX4_copies 28 = .ok (.return_, 1) := dk_177 (dk_at dksX4_copies_1 6 rfl rfl)
abbrev cX4_errorPosition : ByteArray := prog_21_method_23_code
def yX4_errorPosition : MethodName := ⟨RX4, "errorPosition", "()I"⟩
def dkwX4_errorPosition_0 : List UInt8 := [42, 3, 181, 0, 1, 42, 180, 0, 46, 172]
abbrev dktX4_errorPosition_0 : List UInt8 := dkwX4_errorPosition_0 ++ []
theorem dksX4_errorPosition_0 : cX4_errorPosition.data.toList.drop 0 = dktX4_errorPosition_0 := by decide +kernel
theorem dX4_errorPosition_0 : decode cX4_errorPosition 0 = .ok (.aload_n 0, 1) := dk_42 (dk_at dksX4_errorPosition_0 0 rfl rfl)
theorem dX4_errorPosition_1 : decode cX4_errorPosition 1 = .ok (.iconst 0, 1) := dk_3 (dk_at dksX4_errorPosition_0 1 rfl rfl)
theorem dX4_errorPosition_2 : decode cX4_errorPosition 2 = .ok (.putfield 1, 3) := dk_181 0 1 (dk_at dksX4_errorPosition_0 2 rfl rfl)
theorem dX4_errorPosition_5 : decode cX4_errorPosition 5 = .ok (.aload_n 0, 1) := dk_42 (dk_at dksX4_errorPosition_0 5 rfl rfl)
theorem dX4_errorPosition_6 : decode cX4_errorPosition 6 = .ok (.getfield 46, 3) := dk_180 0 46 (dk_at dksX4_errorPosition_0 6 rfl rfl)
theorem dX4_errorPosition_9 : decode cX4_errorPosition 9 = .ok (.ireturn, 1) := dk_172 (dk_at dksX4_errorPosition_0 9 rfl rfl)
abbrev cX4_traderCount : ByteArray := prog_21_method_24_code
def yX4_traderCount : MethodName := ⟨RX4, "traderCount", "()I"⟩
def dkwX4_traderCount_0 : List UInt8 := [42, 3, 181, 0, 1, 42, 180, 0, 215, 172]
abbrev dktX4_traderCount_0 : List UInt8 := dkwX4_traderCount_0 ++ []
theorem dksX4_traderCount_0 : cX4_traderCount.data.toList.drop 0 = dktX4_traderCount_0 := by decide +kernel
theorem dX4_traderCount_0 : decode cX4_traderCount 0 = .ok (.aload_n 0, 1) := dk_42 (dk_at dksX4_traderCount_0 0 rfl rfl)
theorem dX4_traderCount_1 : decode cX4_traderCount 1 = .ok (.iconst 0, 1) := dk_3 (dk_at dksX4_traderCount_0 1 rfl rfl)
theorem dX4_traderCount_2 : decode cX4_traderCount 2 = .ok (.putfield 1, 3) := dk_181 0 1 (dk_at dksX4_traderCount_0 2 rfl rfl)
theorem dX4_traderCount_5 : decode cX4_traderCount 5 = .ok (.aload_n 0, 1) := dk_42 (dk_at dksX4_traderCount_0 5 rfl rfl)
theorem dX4_traderCount_6 : decode cX4_traderCount 6 = .ok (.getfield 215, 3) := dk_180 0 215 (dk_at dksX4_traderCount_0 6 rfl rfl)
theorem dX4_traderCount_9 : decode cX4_traderCount 9 = .ok (.ireturn, 1) := dk_172 (dk_at dksX4_traderCount_0 9 rfl rfl)
abbrev cX4_scaleCount : ByteArray := prog_21_method_25_code
def yX4_scaleCount : MethodName := ⟨RX4, "scaleCount", "()I"⟩
def dkwX4_scaleCount_0 : List UInt8 := [42, 3, 181, 0, 1, 42, 180, 0, 218, 172]
abbrev dktX4_scaleCount_0 : List UInt8 := dkwX4_scaleCount_0 ++ []
theorem dksX4_scaleCount_0 : cX4_scaleCount.data.toList.drop 0 = dktX4_scaleCount_0 := by decide +kernel
theorem dX4_scaleCount_0 : decode cX4_scaleCount 0 = .ok (.aload_n 0, 1) := dk_42 (dk_at dksX4_scaleCount_0 0 rfl rfl)
theorem dX4_scaleCount_1 : decode cX4_scaleCount 1 = .ok (.iconst 0, 1) := dk_3 (dk_at dksX4_scaleCount_0 1 rfl rfl)
theorem dX4_scaleCount_2 : decode cX4_scaleCount 2 = .ok (.putfield 1, 3) := dk_181 0 1 (dk_at dksX4_scaleCount_0 2 rfl rfl)
theorem dX4_scaleCount_5 : decode cX4_scaleCount 5 = .ok (.aload_n 0, 1) := dk_42 (dk_at dksX4_scaleCount_0 5 rfl rfl)
theorem dX4_scaleCount_6 : decode cX4_scaleCount 6 = .ok (.getfield 218, 3) := dk_180 0 218 (dk_at dksX4_scaleCount_0 6 rfl rfl)
theorem dX4_scaleCount_9 : decode cX4_scaleCount 9 = .ok (.ireturn, 1) := dk_172 (dk_at dksX4_scaleCount_0 9 rfl rfl)
abbrev cX4_massCount : ByteArray := prog_21_method_26_code
def yX4_massCount : MethodName := ⟨RX4, "massCount", "()I"⟩
def dkwX4_massCount_0 : List UInt8 := [42, 3, 181, 0, 1, 42, 180, 0, 225, 172]
abbrev dktX4_massCount_0 : List UInt8 := dkwX4_massCount_0 ++ []
theorem dksX4_massCount_0 : cX4_massCount.data.toList.drop 0 = dktX4_massCount_0 := by decide +kernel
theorem dX4_massCount_0 : decode cX4_massCount 0 = .ok (.aload_n 0, 1) := dk_42 (dk_at dksX4_massCount_0 0 rfl rfl)
theorem dX4_massCount_1 : decode cX4_massCount 1 = .ok (.iconst 0, 1) := dk_3 (dk_at dksX4_massCount_0 1 rfl rfl)
theorem dX4_massCount_2 : decode cX4_massCount 2 = .ok (.putfield 1, 3) := dk_181 0 1 (dk_at dksX4_massCount_0 2 rfl rfl)
theorem dX4_massCount_5 : decode cX4_massCount 5 = .ok (.aload_n 0, 1) := dk_42 (dk_at dksX4_massCount_0 5 rfl rfl)
theorem dX4_massCount_6 : decode cX4_massCount 6 = .ok (.getfield 225, 3) := dk_180 0 225 (dk_at dksX4_massCount_0 6 rfl rfl)
theorem dX4_massCount_9 : decode cX4_massCount 9 = .ok (.ireturn, 1) := dk_172 (dk_at dksX4_massCount_0 9 rfl rfl)
abbrev cX4_setCount : ByteArray := prog_21_method_27_code
def yX4_setCount : MethodName := ⟨RX4, "setCount", "()I"⟩
def dkwX4_setCount_0 : List UInt8 := [42, 3, 181, 0, 1, 42, 180, 0, 228, 172]
abbrev dktX4_setCount_0 : List UInt8 := dkwX4_setCount_0 ++ []
theorem dksX4_setCount_0 : cX4_setCount.data.toList.drop 0 = dktX4_setCount_0 := by decide +kernel
theorem dX4_setCount_0 : decode cX4_setCount 0 = .ok (.aload_n 0, 1) := dk_42 (dk_at dksX4_setCount_0 0 rfl rfl)
theorem dX4_setCount_1 : decode cX4_setCount 1 = .ok (.iconst 0, 1) := dk_3 (dk_at dksX4_setCount_0 1 rfl rfl)
theorem dX4_setCount_2 : decode cX4_setCount 2 = .ok (.putfield 1, 3) := dk_181 0 1 (dk_at dksX4_setCount_0 2 rfl rfl)
theorem dX4_setCount_5 : decode cX4_setCount 5 = .ok (.aload_n 0, 1) := dk_42 (dk_at dksX4_setCount_0 5 rfl rfl)
theorem dX4_setCount_6 : decode cX4_setCount 6 = .ok (.getfield 228, 3) := dk_180 0 228 (dk_at dksX4_setCount_0 6 rfl rfl)
theorem dX4_setCount_9 : decode cX4_setCount 9 = .ok (.ireturn, 1) := dk_172 (dk_at dksX4_setCount_0 9 rfl rfl)
abbrev cX4_trader : ByteArray := prog_21_method_29_code
def yX4_trader : MethodName := ⟨RX4, "trader", "(I)I"⟩
def dkwX4_trader_0 : List UInt8 := [42, 3, 181, 0, 1, 42, 27, 182, 0, 234, 153, 0, 12, 42, 180, 0, 17, 27, 46, 167, 0, 4, 2, 172]
abbrev dktX4_trader_0 : List UInt8 := dkwX4_trader_0 ++ []
theorem dksX4_trader_0 : cX4_trader.data.toList.drop 0 = dktX4_trader_0 := by decide +kernel
theorem dX4_trader_0 : decode cX4_trader 0 = .ok (.aload_n 0, 1) := dk_42 (dk_at dksX4_trader_0 0 rfl rfl)
theorem dX4_trader_1 : decode cX4_trader 1 = .ok (.iconst 0, 1) := dk_3 (dk_at dksX4_trader_0 1 rfl rfl)
theorem dX4_trader_2 : decode cX4_trader 2 = .ok (.putfield 1, 3) := dk_181 0 1 (dk_at dksX4_trader_0 2 rfl rfl)
theorem dX4_trader_5 : decode cX4_trader 5 = .ok (.aload_n 0, 1) := dk_42 (dk_at dksX4_trader_0 5 rfl rfl)
theorem dX4_trader_6 : decode cX4_trader 6 = .ok (.iload_n 1, 1) := dk_27 (dk_at dksX4_trader_0 6 rfl rfl)
theorem dX4_trader_7 : decode cX4_trader 7 = .ok (.invokevirtual 234, 3) := dk_182 0 234 (dk_at dksX4_trader_0 7 rfl rfl)
theorem dX4_trader_10 : decode cX4_trader 10 = .ok (.ifCond .eq 12, 3) := dk_153 0 12 (dk_at dksX4_trader_0 10 rfl rfl)
theorem dX4_trader_13 : decode cX4_trader 13 = .ok (.aload_n 0, 1) := dk_42 (dk_at dksX4_trader_0 13 rfl rfl)
theorem dX4_trader_14 : decode cX4_trader 14 = .ok (.getfield 17, 3) := dk_180 0 17 (dk_at dksX4_trader_0 14 rfl rfl)
theorem dX4_trader_17 : decode cX4_trader 17 = .ok (.iload_n 1, 1) := dk_27 (dk_at dksX4_trader_0 17 rfl rfl)
theorem dX4_trader_18 : decode cX4_trader 18 = .ok (.iaload, 1) := dk_46 (dk_at dksX4_trader_0 18 rfl rfl)
theorem dX4_trader_19 : decode cX4_trader 19 = .ok (.goto 4, 3) := dk_167 0 4 (dk_at dksX4_trader_0 19 rfl rfl)
theorem dX4_trader_22 : decode cX4_trader 22 = .ok (.iconst (-1), 1) := dk_2 (dk_at dksX4_trader_0 22 rfl rfl)
theorem dX4_trader_23 : decode cX4_trader 23 = .ok (.ireturn, 1) := dk_172 (dk_at dksX4_trader_0 23 rfl rfl)
abbrev cX4_isScale : ByteArray := prog_21_method_28_code
def yX4_isScale : MethodName := ⟨RX4, "isScale", "(I)Z"⟩
def dkwX4_isScale_0 : List UInt8 := [27, 133, 9, 42, 180, 0, 218, 4, 100, 133, 184, 0, 124, 172]
abbrev dktX4_isScale_0 : List UInt8 := dkwX4_isScale_0 ++ []
theorem dksX4_isScale_0 : cX4_isScale.data.toList.drop 0 = dktX4_isScale_0 := by decide +kernel
theorem dX4_isScale_0 : decode cX4_isScale 0 = .ok (.iload_n 1, 1) := dk_27 (dk_at dksX4_isScale_0 0 rfl rfl)
theorem dX4_isScale_1 : decode cX4_isScale 1 = .ok (.i2l, 1) := dk_133 (dk_at dksX4_isScale_0 1 rfl rfl)
theorem dX4_isScale_2 : decode cX4_isScale 2 = .ok (.lconst 0, 1) := dk_9 (dk_at dksX4_isScale_0 2 rfl rfl)
theorem dX4_isScale_3 : decode cX4_isScale 3 = .ok (.aload_n 0, 1) := dk_42 (dk_at dksX4_isScale_0 3 rfl rfl)
theorem dX4_isScale_4 : decode cX4_isScale 4 = .ok (.getfield 218, 3) := dk_180 0 218 (dk_at dksX4_isScale_0 4 rfl rfl)
theorem dX4_isScale_7 : decode cX4_isScale 7 = .ok (.iconst 1, 1) := dk_4 (dk_at dksX4_isScale_0 7 rfl rfl)
theorem dX4_isScale_8 : decode cX4_isScale 8 = .ok (.isub, 1) := dk_100 (dk_at dksX4_isScale_0 8 rfl rfl)
theorem dX4_isScale_9 : decode cX4_isScale 9 = .ok (.i2l, 1) := dk_133 (dk_at dksX4_isScale_0 9 rfl rfl)
theorem dX4_isScale_10 : decode cX4_isScale 10 = .ok (.invokestatic 124, 3) := dk_184 0 124 (dk_at dksX4_isScale_0 10 rfl rfl)
theorem dX4_isScale_13 : decode cX4_isScale 13 = .ok (.ireturn, 1) := dk_172 (dk_at dksX4_isScale_0 13 rfl rfl)
abbrev cX4_capacity : ByteArray := prog_21_method_30_code
def yX4_capacity : MethodName := ⟨RX4, "capacity", "(I)I"⟩
def dkwX4_capacity_0 : List UInt8 := [42, 3, 181, 0, 1, 42, 27, 182, 0, 234, 153, 0, 12, 42, 180, 0, 26, 27, 46, 167, 0, 4, 2, 172]
abbrev dktX4_capacity_0 : List UInt8 := dkwX4_capacity_0 ++ []
theorem dksX4_capacity_0 : cX4_capacity.data.toList.drop 0 = dktX4_capacity_0 := by decide +kernel
theorem dX4_capacity_0 : decode cX4_capacity 0 = .ok (.aload_n 0, 1) := dk_42 (dk_at dksX4_capacity_0 0 rfl rfl)
theorem dX4_capacity_1 : decode cX4_capacity 1 = .ok (.iconst 0, 1) := dk_3 (dk_at dksX4_capacity_0 1 rfl rfl)
theorem dX4_capacity_2 : decode cX4_capacity 2 = .ok (.putfield 1, 3) := dk_181 0 1 (dk_at dksX4_capacity_0 2 rfl rfl)
theorem dX4_capacity_5 : decode cX4_capacity 5 = .ok (.aload_n 0, 1) := dk_42 (dk_at dksX4_capacity_0 5 rfl rfl)
theorem dX4_capacity_6 : decode cX4_capacity 6 = .ok (.iload_n 1, 1) := dk_27 (dk_at dksX4_capacity_0 6 rfl rfl)
theorem dX4_capacity_7 : decode cX4_capacity 7 = .ok (.invokevirtual 234, 3) := dk_182 0 234 (dk_at dksX4_capacity_0 7 rfl rfl)
theorem dX4_capacity_10 : decode cX4_capacity 10 = .ok (.ifCond .eq 12, 3) := dk_153 0 12 (dk_at dksX4_capacity_0 10 rfl rfl)
theorem dX4_capacity_13 : decode cX4_capacity 13 = .ok (.aload_n 0, 1) := dk_42 (dk_at dksX4_capacity_0 13 rfl rfl)
theorem dX4_capacity_14 : decode cX4_capacity 14 = .ok (.getfield 26, 3) := dk_180 0 26 (dk_at dksX4_capacity_0 14 rfl rfl)
theorem dX4_capacity_17 : decode cX4_capacity 17 = .ok (.iload_n 1, 1) := dk_27 (dk_at dksX4_capacity_0 17 rfl rfl)
theorem dX4_capacity_18 : decode cX4_capacity 18 = .ok (.iaload, 1) := dk_46 (dk_at dksX4_capacity_0 18 rfl rfl)
theorem dX4_capacity_19 : decode cX4_capacity 19 = .ok (.goto 4, 3) := dk_167 0 4 (dk_at dksX4_capacity_0 19 rfl rfl)
theorem dX4_capacity_22 : decode cX4_capacity 22 = .ok (.iconst (-1), 1) := dk_2 (dk_at dksX4_capacity_0 22 rfl rfl)
theorem dX4_capacity_23 : decode cX4_capacity 23 = .ok (.ireturn, 1) := dk_172 (dk_at dksX4_capacity_0 23 rfl rfl)
abbrev cX4_baseTolerance : ByteArray := prog_21_method_32_code
def yX4_baseTolerance : MethodName := ⟨RX4, "baseTolerance", "(II)I"⟩
def dkwX4_baseTolerance_2 : List UInt8 := [167, 0, 9, 42, 27, 28, 182, 0, 237, 172]
abbrev dktX4_baseTolerance_2 : List UInt8 := dkwX4_baseTolerance_2 ++ []
def dkwX4_baseTolerance_1 : List UInt8 := [184, 0, 124, 154, 0, 7, 5, 167, 0, 4, 3, 181, 0, 1, 42, 180, 0, 1, 158, 0, 7, 3]
abbrev dktX4_baseTolerance_1 : List UInt8 := dkwX4_baseTolerance_1 ++ dktX4_baseTolerance_2
def dkwX4_baseTolerance_0 : List UInt8 := [42, 42, 27, 182, 0, 234, 154, 0, 7, 4, 167, 0, 24, 28, 133, 9, 42, 180, 0, 26, 27, 46, 133]
abbrev dktX4_baseTolerance_0 : List UInt8 := dkwX4_baseTolerance_0 ++ dktX4_baseTolerance_1
theorem dksX4_baseTolerance_0 : cX4_baseTolerance.data.toList.drop 0 = dktX4_baseTolerance_0 := by decide +kernel
theorem dksX4_baseTolerance_1 : cX4_baseTolerance.data.toList.drop 23 = dktX4_baseTolerance_1 := dk_seg dksX4_baseTolerance_0 23 rfl rfl
theorem dksX4_baseTolerance_2 : cX4_baseTolerance.data.toList.drop 45 = dktX4_baseTolerance_2 := dk_seg dksX4_baseTolerance_1 22 rfl rfl
theorem dX4_baseTolerance_0 : decode cX4_baseTolerance 0 = .ok (.aload_n 0, 1) := dk_42 (dk_at dksX4_baseTolerance_0 0 rfl rfl)
theorem dX4_baseTolerance_1 : decode cX4_baseTolerance 1 = .ok (.aload_n 0, 1) := dk_42 (dk_at dksX4_baseTolerance_0 1 rfl rfl)
theorem dX4_baseTolerance_2 : decode cX4_baseTolerance 2 = .ok (.iload_n 1, 1) := dk_27 (dk_at dksX4_baseTolerance_0 2 rfl rfl)
theorem dX4_baseTolerance_3 : decode cX4_baseTolerance 3 = .ok (.invokevirtual 234, 3) := dk_182 0 234 (dk_at dksX4_baseTolerance_0 3 rfl rfl)
theorem dX4_baseTolerance_6 : decode cX4_baseTolerance 6 = .ok (.ifCond .ne 7, 3) := dk_154 0 7 (dk_at dksX4_baseTolerance_0 6 rfl rfl)
theorem dX4_baseTolerance_9 : decode cX4_baseTolerance 9 = .ok (.iconst 1, 1) := dk_4 (dk_at dksX4_baseTolerance_0 9 rfl rfl)
theorem dX4_baseTolerance_10 : decode cX4_baseTolerance 10 = .ok (.goto 24, 3) := dk_167 0 24 (dk_at dksX4_baseTolerance_0 10 rfl rfl)
theorem dX4_baseTolerance_13 : decode cX4_baseTolerance 13 = .ok (.iload_n 2, 1) := dk_28 (dk_at dksX4_baseTolerance_0 13 rfl rfl)
theorem dX4_baseTolerance_14 : decode cX4_baseTolerance 14 = .ok (.i2l, 1) := dk_133 (dk_at dksX4_baseTolerance_0 14 rfl rfl)
theorem dX4_baseTolerance_15 : decode cX4_baseTolerance 15 = .ok (.lconst 0, 1) := dk_9 (dk_at dksX4_baseTolerance_0 15 rfl rfl)
theorem dX4_baseTolerance_16 : decode cX4_baseTolerance 16 = .ok (.aload_n 0, 1) := dk_42 (dk_at dksX4_baseTolerance_0 16 rfl rfl)
theorem dX4_baseTolerance_17 : decode cX4_baseTolerance 17 = .ok (.getfield 26, 3) := dk_180 0 26 (dk_at dksX4_baseTolerance_0 17 rfl rfl)
theorem dX4_baseTolerance_20 : decode cX4_baseTolerance 20 = .ok (.iload_n 1, 1) := dk_27 (dk_at dksX4_baseTolerance_0 20 rfl rfl)
theorem dX4_baseTolerance_21 : decode cX4_baseTolerance 21 = .ok (.iaload, 1) := dk_46 (dk_at dksX4_baseTolerance_0 21 rfl rfl)
theorem dX4_baseTolerance_22 : decode cX4_baseTolerance 22 = .ok (.i2l, 1) := dk_133 (dk_at dksX4_baseTolerance_0 22 rfl rfl)
theorem dX4_baseTolerance_23 : decode cX4_baseTolerance 23 = .ok (.invokestatic 124, 3) := dk_184 0 124 (dk_at dksX4_baseTolerance_1 0 rfl rfl)
theorem dX4_baseTolerance_26 : decode cX4_baseTolerance 26 = .ok (.ifCond .ne 7, 3) := dk_154 0 7 (dk_at dksX4_baseTolerance_1 3 rfl rfl)
theorem dX4_baseTolerance_29 : decode cX4_baseTolerance 29 = .ok (.iconst 2, 1) := dk_5 (dk_at dksX4_baseTolerance_1 6 rfl rfl)
theorem dX4_baseTolerance_30 : decode cX4_baseTolerance 30 = .ok (.goto 4, 3) := dk_167 0 4 (dk_at dksX4_baseTolerance_1 7 rfl rfl)
theorem dX4_baseTolerance_33 : decode cX4_baseTolerance 33 = .ok (.iconst 0, 1) := dk_3 (dk_at dksX4_baseTolerance_1 10 rfl rfl)
theorem dX4_baseTolerance_34 : decode cX4_baseTolerance 34 = .ok (.putfield 1, 3) := dk_181 0 1 (dk_at dksX4_baseTolerance_1 11 rfl rfl)
theorem dX4_baseTolerance_37 : decode cX4_baseTolerance 37 = .ok (.aload_n 0, 1) := dk_42 (dk_at dksX4_baseTolerance_1 14 rfl rfl)
theorem dX4_baseTolerance_38 : decode cX4_baseTolerance 38 = .ok (.getfield 1, 3) := dk_180 0 1 (dk_at dksX4_baseTolerance_1 15 rfl rfl)
theorem dX4_baseTolerance_41 : decode cX4_baseTolerance 41 = .ok (.ifCond .le 7, 3) := dk_158 0 7 (dk_at dksX4_baseTolerance_1 18 rfl rfl)
theorem dX4_baseTolerance_44 : decode cX4_baseTolerance 44 = .ok (.iconst 0, 1) := dk_3 (dk_at dksX4_baseTolerance_1 21 rfl rfl)
theorem dX4_baseTolerance_45 : decode cX4_baseTolerance 45 = .ok (.goto 9, 3) := dk_167 0 9 (dk_at dksX4_baseTolerance_2 0 rfl rfl)
theorem dX4_baseTolerance_48 : decode cX4_baseTolerance 48 = .ok (.aload_n 0, 1) := dk_42 (dk_at dksX4_baseTolerance_2 3 rfl rfl)
theorem dX4_baseTolerance_49 : decode cX4_baseTolerance 49 = .ok (.iload_n 1, 1) := dk_27 (dk_at dksX4_baseTolerance_2 4 rfl rfl)
theorem dX4_baseTolerance_50 : decode cX4_baseTolerance 50 = .ok (.iload_n 2, 1) := dk_28 (dk_at dksX4_baseTolerance_2 5 rfl rfl)
theorem dX4_baseTolerance_51 : decode cX4_baseTolerance 51 = .ok (.invokevirtual 237, 3) := dk_182 0 237 (dk_at dksX4_baseTolerance_2 6 rfl rfl)
theorem dX4_baseTolerance_54 : decode cX4_baseTolerance 54 = .ok (.ireturn, 1) := dk_172 (dk_at dksX4_baseTolerance_2 9 rfl rfl)
abbrev cX4_base : ByteArray := prog_21_method_31_code
def yX4_base : MethodName := ⟨RX4, "base", "(II)I"⟩
def dkwX4_base_3 : List UInt8 := [167, 0, 10, 6, 29, 104, 4, 96, 5, 108, 172]
abbrev dktX4_base_3 : List UInt8 := dkwX4_base_3 ++ []
def dkwX4_base_2 : List UInt8 := [163, 0, 11, 29, 4, 96, 5, 108, 167, 0, 24, 28, 7, 21, 4, 104, 29, 104, 163, 0, 7, 29]
abbrev dktX4_base_2 : List UInt8 := dkwX4_base_2 ++ dktX4_base_3
def dkwX4_base_1 : List UInt8 := [180, 0, 20, 27, 46, 4, 160, 0, 9, 17, 1, 244, 167, 0, 5, 16, 50, 54, 4, 28, 21, 4, 29, 104]
abbrev dktX4_base_1 : List UInt8 := dkwX4_base_1 ++ dktX4_base_2
def dkwX4_base_0 : List UInt8 := [42, 180, 0, 23, 27, 46, 62, 42, 180, 0, 20, 27, 46, 154, 0, 9, 17, 19, 136, 167, 0, 21, 42]
abbrev dktX4_base_0 : List UInt8 := dkwX4_base_0 ++ dktX4_base_1
theorem dksX4_base_0 : cX4_base.data.toList.drop 0 = dktX4_base_0 := by decide +kernel
theorem dksX4_base_1 : cX4_base.data.toList.drop 23 = dktX4_base_1 := dk_seg dksX4_base_0 23 rfl rfl
theorem dksX4_base_2 : cX4_base.data.toList.drop 47 = dktX4_base_2 := dk_seg dksX4_base_1 24 rfl rfl
theorem dksX4_base_3 : cX4_base.data.toList.drop 69 = dktX4_base_3 := dk_seg dksX4_base_2 22 rfl rfl
theorem dX4_base_0 : decode cX4_base 0 = .ok (.aload_n 0, 1) := dk_42 (dk_at dksX4_base_0 0 rfl rfl)
theorem dX4_base_1 : decode cX4_base 1 = .ok (.getfield 23, 3) := dk_180 0 23 (dk_at dksX4_base_0 1 rfl rfl)
theorem dX4_base_4 : decode cX4_base 4 = .ok (.iload_n 1, 1) := dk_27 (dk_at dksX4_base_0 4 rfl rfl)
theorem dX4_base_5 : decode cX4_base 5 = .ok (.iaload, 1) := dk_46 (dk_at dksX4_base_0 5 rfl rfl)
theorem dX4_base_6 : decode cX4_base 6 = .ok (.istore_n 3, 1) := dk_62 (dk_at dksX4_base_0 6 rfl rfl)
theorem dX4_base_7 : decode cX4_base 7 = .ok (.aload_n 0, 1) := dk_42 (dk_at dksX4_base_0 7 rfl rfl)
theorem dX4_base_8 : decode cX4_base 8 = .ok (.getfield 20, 3) := dk_180 0 20 (dk_at dksX4_base_0 8 rfl rfl)
theorem dX4_base_11 : decode cX4_base 11 = .ok (.iload_n 1, 1) := dk_27 (dk_at dksX4_base_0 11 rfl rfl)
theorem dX4_base_12 : decode cX4_base 12 = .ok (.iaload, 1) := dk_46 (dk_at dksX4_base_0 12 rfl rfl)
theorem dX4_base_13 : decode cX4_base 13 = .ok (.ifCond .ne 9, 3) := dk_154 0 9 (dk_at dksX4_base_0 13 rfl rfl)
theorem dX4_base_16 : decode cX4_base 16 = .ok (.sipush 5000, 3) := dk_17 19 136 (dk_at dksX4_base_0 16 rfl rfl)
theorem dX4_base_19 : decode cX4_base 19 = .ok (.goto 21, 3) := dk_167 0 21 (dk_at dksX4_base_0 19 rfl rfl)
theorem dX4_base_22 : decode cX4_base 22 = .ok (.aload_n 0, 1) := dk_42 (dk_at dksX4_base_0 22 rfl rfl)
theorem dX4_base_23 : decode cX4_base 23 = .ok (.getfield 20, 3) := dk_180 0 20 (dk_at dksX4_base_1 0 rfl rfl)
theorem dX4_base_26 : decode cX4_base 26 = .ok (.iload_n 1, 1) := dk_27 (dk_at dksX4_base_1 3 rfl rfl)
theorem dX4_base_27 : decode cX4_base 27 = .ok (.iaload, 1) := dk_46 (dk_at dksX4_base_1 4 rfl rfl)
theorem dX4_base_28 : decode cX4_base 28 = .ok (.iconst 1, 1) := dk_4 (dk_at dksX4_base_1 5 rfl rfl)
theorem dX4_base_29 : decode cX4_base 29 = .ok (.if_icmp .ne 9, 3) := dk_160 0 9 (dk_at dksX4_base_1 6 rfl rfl)
theorem dX4_base_32 : decode cX4_base 32 = .ok (.sipush 500, 3) := dk_17 1 244 (dk_at dksX4_base_1 9 rfl rfl)
theorem dX4_base_35 : decode cX4_base 35 = .ok (.goto 5, 3) := dk_167 0 5 (dk_at dksX4_base_1 12 rfl rfl)
theorem dX4_base_38 : decode cX4_base 38 = .ok (.bipush 50, 2) := dk_16 50 (dk_at dksX4_base_1 15 rfl rfl)
theorem dX4_base_40 : decode cX4_base 40 = .ok (.istore 4, 2) := dk_54 4 (dk_at dksX4_base_1 17 rfl rfl)
theorem dX4_base_42 : decode cX4_base 42 = .ok (.iload_n 2, 1) := dk_28 (dk_at dksX4_base_1 19 rfl rfl)
theorem dX4_base_43 : decode cX4_base 43 = .ok (.iload 4, 2) := dk_21 4 (dk_at dksX4_base_1 20 rfl rfl)
theorem dX4_base_45 : decode cX4_base 45 = .ok (.iload_n 3, 1) := dk_29 (dk_at dksX4_base_1 22 rfl rfl)
theorem dX4_base_46 : decode cX4_base 46 = .ok (.imul, 1) := dk_104 (dk_at dksX4_base_1 23 rfl rfl)
theorem dX4_base_47 : decode cX4_base 47 = .ok (.if_icmp .gt 11, 3) := dk_163 0 11 (dk_at dksX4_base_2 0 rfl rfl)
theorem dX4_base_50 : decode cX4_base 50 = .ok (.iload_n 3, 1) := dk_29 (dk_at dksX4_base_2 3 rfl rfl)
theorem dX4_base_51 : decode cX4_base 51 = .ok (.iconst 1, 1) := dk_4 (dk_at dksX4_base_2 4 rfl rfl)
theorem dX4_base_52 : decode cX4_base 52 = .ok (.iadd, 1) := dk_96 (dk_at dksX4_base_2 5 rfl rfl)
theorem dX4_base_53 : decode cX4_base 53 = .ok (.iconst 2, 1) := dk_5 (dk_at dksX4_base_2 6 rfl rfl)
theorem dX4_base_54 : decode cX4_base 54 = .ok (.idiv, 1) := dk_108 (dk_at dksX4_base_2 7 rfl rfl)
theorem dX4_base_55 : decode cX4_base 55 = .ok (.goto 24, 3) := dk_167 0 24 (dk_at dksX4_base_2 8 rfl rfl)
theorem dX4_base_58 : decode cX4_base 58 = .ok (.iload_n 2, 1) := dk_28 (dk_at dksX4_base_2 11 rfl rfl)
theorem dX4_base_59 : decode cX4_base 59 = .ok (.iconst 4, 1) := dk_7 (dk_at dksX4_base_2 12 rfl rfl)
theorem dX4_base_60 : decode cX4_base 60 = .ok (.iload 4, 2) := dk_21 4 (dk_at dksX4_base_2 13 rfl rfl)
theorem dX4_base_62 : decode cX4_base 62 = .ok (.imul, 1) := dk_104 (dk_at dksX4_base_2 15 rfl rfl)
theorem dX4_base_63 : decode cX4_base 63 = .ok (.iload_n 3, 1) := dk_29 (dk_at dksX4_base_2 16 rfl rfl)
theorem dX4_base_64 : decode cX4_base 64 = .ok (.imul, 1) := dk_104 (dk_at dksX4_base_2 17 rfl rfl)
theorem dX4_base_65 : decode cX4_base 65 = .ok (.if_icmp .gt 7, 3) := dk_163 0 7 (dk_at dksX4_base_2 18 rfl rfl)
theorem dX4_base_68 : decode cX4_base 68 = .ok (.iload_n 3, 1) := dk_29 (dk_at dksX4_base_2 21 rfl rfl)
theorem dX4_base_69 : decode cX4_base 69 = .ok (.goto 10, 3) := dk_167 0 10 (dk_at dksX4_base_3 0 rfl rfl)
theorem dX4_base_72 : decode cX4_base 72 = .ok (.iconst 3, 1) := dk_6 (dk_at dksX4_base_3 3 rfl rfl)
theorem dX4_base_73 : decode cX4_base 73 = .ok (.iload_n 3, 1) := dk_29 (dk_at dksX4_base_3 4 rfl rfl)
theorem dX4_base_74 : decode cX4_base 74 = .ok (.imul, 1) := dk_104 (dk_at dksX4_base_3 5 rfl rfl)
theorem dX4_base_75 : decode cX4_base 75 = .ok (.iconst 1, 1) := dk_4 (dk_at dksX4_base_3 6 rfl rfl)
theorem dX4_base_76 : decode cX4_base 76 = .ok (.iadd, 1) := dk_96 (dk_at dksX4_base_3 7 rfl rfl)
theorem dX4_base_77 : decode cX4_base 77 = .ok (.iconst 2, 1) := dk_5 (dk_at dksX4_base_3 8 rfl rfl)
theorem dX4_base_78 : decode cX4_base 78 = .ok (.idiv, 1) := dk_108 (dk_at dksX4_base_3 9 rfl rfl)
theorem dX4_base_79 : decode cX4_base 79 = .ok (.ireturn, 1) := dk_172 (dk_at dksX4_base_3 10 rfl rfl)
abbrev cX4_massValue : ByteArray := prog_21_method_33_code
def yX4_massValue : MethodName := ⟨RX4, "massValue", "(I)I"⟩
def dkwX4_massValue_1 : List UInt8 := [180, 0, 29, 27, 46, 167, 0, 4, 2, 172]
abbrev dktX4_massValue_1 : List UInt8 := dkwX4_massValue_1 ++ []
def dkwX4_massValue_0 : List UInt8 := [42, 3, 181, 0, 1, 27, 133, 9, 42, 180, 0, 225, 4, 100, 133, 184, 0, 124, 153, 0, 12, 42]
abbrev dktX4_massValue_0 : List UInt8 := dkwX4_massValue_0 ++ dktX4_massValue_1
theorem dksX4_massValue_0 : cX4_massValue.data.toList.drop 0 = dktX4_massValue_0 := by decide +kernel
theorem dksX4_massValue_1 : cX4_massValue.data.toList.drop 22 = dktX4_massValue_1 := dk_seg dksX4_massValue_0 22 rfl rfl
theorem dX4_massValue_0 : decode cX4_massValue 0 = .ok (.aload_n 0, 1) := dk_42 (dk_at dksX4_massValue_0 0 rfl rfl)
theorem dX4_massValue_1 : decode cX4_massValue 1 = .ok (.iconst 0, 1) := dk_3 (dk_at dksX4_massValue_0 1 rfl rfl)
theorem dX4_massValue_2 : decode cX4_massValue 2 = .ok (.putfield 1, 3) := dk_181 0 1 (dk_at dksX4_massValue_0 2 rfl rfl)
theorem dX4_massValue_5 : decode cX4_massValue 5 = .ok (.iload_n 1, 1) := dk_27 (dk_at dksX4_massValue_0 5 rfl rfl)
theorem dX4_massValue_6 : decode cX4_massValue 6 = .ok (.i2l, 1) := dk_133 (dk_at dksX4_massValue_0 6 rfl rfl)
theorem dX4_massValue_7 : decode cX4_massValue 7 = .ok (.lconst 0, 1) := dk_9 (dk_at dksX4_massValue_0 7 rfl rfl)
theorem dX4_massValue_8 : decode cX4_massValue 8 = .ok (.aload_n 0, 1) := dk_42 (dk_at dksX4_massValue_0 8 rfl rfl)
theorem dX4_massValue_9 : decode cX4_massValue 9 = .ok (.getfield 225, 3) := dk_180 0 225 (dk_at dksX4_massValue_0 9 rfl rfl)
theorem dX4_massValue_12 : decode cX4_massValue 12 = .ok (.iconst 1, 1) := dk_4 (dk_at dksX4_massValue_0 12 rfl rfl)
theorem dX4_massValue_13 : decode cX4_massValue 13 = .ok (.isub, 1) := dk_100 (dk_at dksX4_massValue_0 13 rfl rfl)
theorem dX4_massValue_14 : decode cX4_massValue 14 = .ok (.i2l, 1) := dk_133 (dk_at dksX4_massValue_0 14 rfl rfl)
theorem dX4_massValue_15 : decode cX4_massValue 15 = .ok (.invokestatic 124, 3) := dk_184 0 124 (dk_at dksX4_massValue_0 15 rfl rfl)
theorem dX4_massValue_18 : decode cX4_massValue 18 = .ok (.ifCond .eq 12, 3) := dk_153 0 12 (dk_at dksX4_massValue_0 18 rfl rfl)
theorem dX4_massValue_21 : decode cX4_massValue 21 = .ok (.aload_n 0, 1) := dk_42 (dk_at dksX4_massValue_0 21 rfl rfl)
theorem dX4_massValue_22 : decode cX4_massValue 22 = .ok (.getfield 29, 3) := dk_180 0 29 (dk_at dksX4_massValue_1 0 rfl rfl)
theorem dX4_massValue_25 : decode cX4_massValue 25 = .ok (.iload_n 1, 1) := dk_27 (dk_at dksX4_massValue_1 3 rfl rfl)
theorem dX4_massValue_26 : decode cX4_massValue 26 = .ok (.iaload, 1) := dk_46 (dk_at dksX4_massValue_1 4 rfl rfl)
theorem dX4_massValue_27 : decode cX4_massValue 27 = .ok (.goto 4, 3) := dk_167 0 4 (dk_at dksX4_massValue_1 5 rfl rfl)
theorem dX4_massValue_30 : decode cX4_massValue 30 = .ok (.iconst (-1), 1) := dk_2 (dk_at dksX4_massValue_1 8 rfl rfl)
theorem dX4_massValue_31 : decode cX4_massValue 31 = .ok (.ireturn, 1) := dk_172 (dk_at dksX4_massValue_1 9 rfl rfl)
abbrev cX4_fewestMasses : ByteArray := prog_21_method_35_code
def yX4_fewestMasses : MethodName := ⟨RX4, "fewestMasses", "(I)I"⟩
def dkwX4_fewestMasses_2 : List UInt8 := [184, 0, 244, 162, 0, 5, 29, 61, 132, 3, 1, 167, 255, 215, 28, 172]
abbrev dktX4_fewestMasses_2 : List UInt8 := dkwX4_fewestMasses_2 ++ []
def dkwX4_fewestMasses_1 : List UInt8 := [162, 0, 37, 42, 29, 182, 0, 241, 27, 160, 0, 22, 28, 16, 254, 159, 0, 14, 29, 184, 0, 244, 28]
abbrev dktX4_fewestMasses_1 : List UInt8 := dkwX4_fewestMasses_1 ++ dktX4_fewestMasses_2
def dkwX4_fewestMasses_0 : List UInt8 := [42, 3, 181, 0, 1, 27, 156, 0, 5, 2, 172, 16, 254, 61, 3, 62, 29, 4, 42, 180, 0, 225, 120]
abbrev dktX4_fewestMasses_0 : List UInt8 := dkwX4_fewestMasses_0 ++ dktX4_fewestMasses_1
theorem dksX4_fewestMasses_0 : cX4_fewestMasses.data.toList.drop 0 = dktX4_fewestMasses_0 := by decide +kernel
theorem dksX4_fewestMasses_1 : cX4_fewestMasses.data.toList.drop 23 = dktX4_fewestMasses_1 := dk_seg dksX4_fewestMasses_0 23 rfl rfl
theorem dksX4_fewestMasses_2 : cX4_fewestMasses.data.toList.drop 46 = dktX4_fewestMasses_2 := dk_seg dksX4_fewestMasses_1 23 rfl rfl
theorem dX4_fewestMasses_0 : decode cX4_fewestMasses 0 = .ok (.aload_n 0, 1) := dk_42 (dk_at dksX4_fewestMasses_0 0 rfl rfl)
theorem dX4_fewestMasses_1 : decode cX4_fewestMasses 1 = .ok (.iconst 0, 1) := dk_3 (dk_at dksX4_fewestMasses_0 1 rfl rfl)
theorem dX4_fewestMasses_2 : decode cX4_fewestMasses 2 = .ok (.putfield 1, 3) := dk_181 0 1 (dk_at dksX4_fewestMasses_0 2 rfl rfl)
theorem dX4_fewestMasses_5 : decode cX4_fewestMasses 5 = .ok (.iload_n 1, 1) := dk_27 (dk_at dksX4_fewestMasses_0 5 rfl rfl)
theorem dX4_fewestMasses_6 : decode cX4_fewestMasses 6 = .ok (.ifCond .ge 5, 3) := dk_156 0 5 (dk_at dksX4_fewestMasses_0 6 rfl rfl)
theorem dX4_fewestMasses_9 : decode cX4_fewestMasses 9 = .ok (.iconst (-1), 1) := dk_2 (dk_at dksX4_fewestMasses_0 9 rfl rfl)
theorem dX4_fewestMasses_10 : decode cX4_fewestMasses 10 = .ok (.ireturn, 1) := dk_172 (dk_at dksX4_fewestMasses_0 10 rfl rfl)
theorem dX4_fewestMasses_11 : decode cX4_fewestMasses 11 = .ok (.bipush (-2), 2) := dk_16 254 (dk_at dksX4_fewestMasses_0 11 rfl rfl)
theorem dX4_fewestMasses_13 : decode cX4_fewestMasses 13 = .ok (.istore_n 2, 1) := dk_61 (dk_at dksX4_fewestMasses_0 13 rfl rfl)
theorem dX4_fewestMasses_14 : decode cX4_fewestMasses 14 = .ok (.iconst 0, 1) := dk_3 (dk_at dksX4_fewestMasses_0 14 rfl rfl)
theorem dX4_fewestMasses_15 : decode cX4_fewestMasses 15 = .ok (.istore_n 3, 1) := dk_62 (dk_at dksX4_fewestMasses_0 15 rfl rfl)
theorem dX4_fewestMasses_16 : decode cX4_fewestMasses 16 = .ok (.iload_n 3, 1) := dk_29 (dk_at dksX4_fewestMasses_0 16 rfl rfl)
theorem dX4_fewestMasses_17 : decode cX4_fewestMasses 17 = .ok (.iconst 1, 1) := dk_4 (dk_at dksX4_fewestMasses_0 17 rfl rfl)
theorem dX4_fewestMasses_18 : decode cX4_fewestMasses 18 = .ok (.aload_n 0, 1) := dk_42 (dk_at dksX4_fewestMasses_0 18 rfl rfl)
theorem dX4_fewestMasses_19 : decode cX4_fewestMasses 19 = .ok (.getfield 225, 3) := dk_180 0 225 (dk_at dksX4_fewestMasses_0 19 rfl rfl)
theorem dX4_fewestMasses_22 : decode cX4_fewestMasses 22 = .ok (.ishl, 1) := dk_120 (dk_at dksX4_fewestMasses_0 22 rfl rfl)
theorem dX4_fewestMasses_23 : decode cX4_fewestMasses 23 = .ok (.if_icmp .ge 37, 3) := dk_162 0 37 (dk_at dksX4_fewestMasses_1 0 rfl rfl)
theorem dX4_fewestMasses_26 : decode cX4_fewestMasses 26 = .ok (.aload_n 0, 1) := dk_42 (dk_at dksX4_fewestMasses_1 3 rfl rfl)
theorem dX4_fewestMasses_27 : decode cX4_fewestMasses 27 = .ok (.iload_n 3, 1) := dk_29 (dk_at dksX4_fewestMasses_1 4 rfl rfl)
theorem dX4_fewestMasses_28 : decode cX4_fewestMasses 28 = .ok (.invokevirtual 241, 3) := dk_182 0 241 (dk_at dksX4_fewestMasses_1 5 rfl rfl)
theorem dX4_fewestMasses_31 : decode cX4_fewestMasses 31 = .ok (.iload_n 1, 1) := dk_27 (dk_at dksX4_fewestMasses_1 8 rfl rfl)
theorem dX4_fewestMasses_32 : decode cX4_fewestMasses 32 = .ok (.if_icmp .ne 22, 3) := dk_160 0 22 (dk_at dksX4_fewestMasses_1 9 rfl rfl)
theorem dX4_fewestMasses_35 : decode cX4_fewestMasses 35 = .ok (.iload_n 2, 1) := dk_28 (dk_at dksX4_fewestMasses_1 12 rfl rfl)
theorem dX4_fewestMasses_36 : decode cX4_fewestMasses 36 = .ok (.bipush (-2), 2) := dk_16 254 (dk_at dksX4_fewestMasses_1 13 rfl rfl)
theorem dX4_fewestMasses_38 : decode cX4_fewestMasses 38 = .ok (.if_icmp .eq 14, 3) := dk_159 0 14 (dk_at dksX4_fewestMasses_1 15 rfl rfl)
theorem dX4_fewestMasses_41 : decode cX4_fewestMasses 41 = .ok (.iload_n 3, 1) := dk_29 (dk_at dksX4_fewestMasses_1 18 rfl rfl)
theorem dX4_fewestMasses_42 : decode cX4_fewestMasses 42 = .ok (.invokestatic 244, 3) := dk_184 0 244 (dk_at dksX4_fewestMasses_1 19 rfl rfl)
theorem dX4_fewestMasses_45 : decode cX4_fewestMasses 45 = .ok (.iload_n 2, 1) := dk_28 (dk_at dksX4_fewestMasses_1 22 rfl rfl)
theorem dX4_fewestMasses_46 : decode cX4_fewestMasses 46 = .ok (.invokestatic 244, 3) := dk_184 0 244 (dk_at dksX4_fewestMasses_2 0 rfl rfl)
theorem dX4_fewestMasses_49 : decode cX4_fewestMasses 49 = .ok (.if_icmp .ge 5, 3) := dk_162 0 5 (dk_at dksX4_fewestMasses_2 3 rfl rfl)
theorem dX4_fewestMasses_52 : decode cX4_fewestMasses 52 = .ok (.iload_n 3, 1) := dk_29 (dk_at dksX4_fewestMasses_2 6 rfl rfl)
theorem dX4_fewestMasses_53 : decode cX4_fewestMasses 53 = .ok (.istore_n 2, 1) := dk_61 (dk_at dksX4_fewestMasses_2 7 rfl rfl)
theorem dX4_fewestMasses_54 : decode cX4_fewestMasses 54 = .ok (.iinc 3 1, 3) := dk_132 3 1 (dk_at dksX4_fewestMasses_2 8 rfl rfl)
theorem dX4_fewestMasses_57 : decode cX4_fewestMasses 57 = .ok (.goto (-41), 3) := dk_167 255 215 (dk_at dksX4_fewestMasses_2 11 rfl rfl)
theorem dX4_fewestMasses_60 : decode cX4_fewestMasses 60 = .ok (.iload_n 2, 1) := dk_28 (dk_at dksX4_fewestMasses_2 14 rfl rfl)
theorem dX4_fewestMasses_61 : decode cX4_fewestMasses 61 = .ok (.ireturn, 1) := dk_172 (dk_at dksX4_fewestMasses_2 15 rfl rfl)
abbrev cX4_sumOf : ByteArray := prog_21_method_34_code
def yX4_sumOf : MethodName := ⟨RX4, "sumOf", "(I)I"⟩
def dkwX4_sumOf_1 : List UInt8 := [180, 0, 29, 29, 46, 167, 0, 4, 3, 96, 61, 132, 3, 1, 167, 255, 223, 28, 172]
abbrev dktX4_sumOf_1 : List UInt8 := dkwX4_sumOf_1 ++ []
def dkwX4_sumOf_0 : List UInt8 := [3, 61, 3, 62, 29, 42, 180, 0, 225, 162, 0, 31, 28, 27, 29, 122, 4, 126, 4, 160, 0, 12, 42]
abbrev dktX4_sumOf_0 : List UInt8 := dkwX4_sumOf_0 ++ dktX4_sumOf_1
theorem dksX4_sumOf_0 : cX4_sumOf.data.toList.drop 0 = dktX4_sumOf_0 := by decide +kernel
theorem dksX4_sumOf_1 : cX4_sumOf.data.toList.drop 23 = dktX4_sumOf_1 := dk_seg dksX4_sumOf_0 23 rfl rfl
theorem dX4_sumOf_0 : decode cX4_sumOf 0 = .ok (.iconst 0, 1) := dk_3 (dk_at dksX4_sumOf_0 0 rfl rfl)
theorem dX4_sumOf_1 : decode cX4_sumOf 1 = .ok (.istore_n 2, 1) := dk_61 (dk_at dksX4_sumOf_0 1 rfl rfl)
theorem dX4_sumOf_2 : decode cX4_sumOf 2 = .ok (.iconst 0, 1) := dk_3 (dk_at dksX4_sumOf_0 2 rfl rfl)
theorem dX4_sumOf_3 : decode cX4_sumOf 3 = .ok (.istore_n 3, 1) := dk_62 (dk_at dksX4_sumOf_0 3 rfl rfl)
theorem dX4_sumOf_4 : decode cX4_sumOf 4 = .ok (.iload_n 3, 1) := dk_29 (dk_at dksX4_sumOf_0 4 rfl rfl)
theorem dX4_sumOf_5 : decode cX4_sumOf 5 = .ok (.aload_n 0, 1) := dk_42 (dk_at dksX4_sumOf_0 5 rfl rfl)
theorem dX4_sumOf_6 : decode cX4_sumOf 6 = .ok (.getfield 225, 3) := dk_180 0 225 (dk_at dksX4_sumOf_0 6 rfl rfl)
theorem dX4_sumOf_9 : decode cX4_sumOf 9 = .ok (.if_icmp .ge 31, 3) := dk_162 0 31 (dk_at dksX4_sumOf_0 9 rfl rfl)
theorem dX4_sumOf_12 : decode cX4_sumOf 12 = .ok (.iload_n 2, 1) := dk_28 (dk_at dksX4_sumOf_0 12 rfl rfl)
theorem dX4_sumOf_13 : decode cX4_sumOf 13 = .ok (.iload_n 1, 1) := dk_27 (dk_at dksX4_sumOf_0 13 rfl rfl)
theorem dX4_sumOf_14 : decode cX4_sumOf 14 = .ok (.iload_n 3, 1) := dk_29 (dk_at dksX4_sumOf_0 14 rfl rfl)
theorem dX4_sumOf_15 : decode cX4_sumOf 15 = .ok (.ishr, 1) := dk_122 (dk_at dksX4_sumOf_0 15 rfl rfl)
theorem dX4_sumOf_16 : decode cX4_sumOf 16 = .ok (.iconst 1, 1) := dk_4 (dk_at dksX4_sumOf_0 16 rfl rfl)
theorem dX4_sumOf_17 : decode cX4_sumOf 17 = .ok (.iand, 1) := dk_126 (dk_at dksX4_sumOf_0 17 rfl rfl)
theorem dX4_sumOf_18 : decode cX4_sumOf 18 = .ok (.iconst 1, 1) := dk_4 (dk_at dksX4_sumOf_0 18 rfl rfl)
theorem dX4_sumOf_19 : decode cX4_sumOf 19 = .ok (.if_icmp .ne 12, 3) := dk_160 0 12 (dk_at dksX4_sumOf_0 19 rfl rfl)
theorem dX4_sumOf_22 : decode cX4_sumOf 22 = .ok (.aload_n 0, 1) := dk_42 (dk_at dksX4_sumOf_0 22 rfl rfl)
theorem dX4_sumOf_23 : decode cX4_sumOf 23 = .ok (.getfield 29, 3) := dk_180 0 29 (dk_at dksX4_sumOf_1 0 rfl rfl)
theorem dX4_sumOf_26 : decode cX4_sumOf 26 = .ok (.iload_n 3, 1) := dk_29 (dk_at dksX4_sumOf_1 3 rfl rfl)
theorem dX4_sumOf_27 : decode cX4_sumOf 27 = .ok (.iaload, 1) := dk_46 (dk_at dksX4_sumOf_1 4 rfl rfl)
theorem dX4_sumOf_28 : decode cX4_sumOf 28 = .ok (.goto 4, 3) := dk_167 0 4 (dk_at dksX4_sumOf_1 5 rfl rfl)
theorem dX4_sumOf_31 : decode cX4_sumOf 31 = .ok (.iconst 0, 1) := dk_3 (dk_at dksX4_sumOf_1 8 rfl rfl)
theorem dX4_sumOf_32 : decode cX4_sumOf 32 = .ok (.iadd, 1) := dk_96 (dk_at dksX4_sumOf_1 9 rfl rfl)
theorem dX4_sumOf_33 : decode cX4_sumOf 33 = .ok (.istore_n 2, 1) := dk_61 (dk_at dksX4_sumOf_1 10 rfl rfl)
theorem dX4_sumOf_34 : decode cX4_sumOf 34 = .ok (.iinc 3 1, 3) := dk_132 3 1 (dk_at dksX4_sumOf_1 11 rfl rfl)
theorem dX4_sumOf_37 : decode cX4_sumOf 37 = .ok (.goto (-33), 3) := dk_167 255 223 (dk_at dksX4_sumOf_1 14 rfl rfl)
theorem dX4_sumOf_40 : decode cX4_sumOf 40 = .ok (.iload_n 2, 1) := dk_28 (dk_at dksX4_sumOf_1 17 rfl rfl)
theorem dX4_sumOf_41 : decode cX4_sumOf 41 = .ok (.ireturn, 1) := dk_172 (dk_at dksX4_sumOf_1 18 rfl rfl)
abbrev cX4_bits : ByteArray := prog_21_method_3_code
def yX4_bits : MethodName := ⟨RX4, "bits", "(I)I"⟩
def dkwX4_bits_0 : List UInt8 := [3, 60, 26, 61, 28, 153, 0, 15, 132, 1, 1, 28, 28, 4, 100, 126, 61, 167, 255, 243, 27, 172]
abbrev dktX4_bits_0 : List UInt8 := dkwX4_bits_0 ++ []
theorem dksX4_bits_0 : cX4_bits.data.toList.drop 0 = dktX4_bits_0 := by decide +kernel
theorem dX4_bits_0 : decode cX4_bits 0 = .ok (.iconst 0, 1) := dk_3 (dk_at dksX4_bits_0 0 rfl rfl)
theorem dX4_bits_1 : decode cX4_bits 1 = .ok (.istore_n 1, 1) := dk_60 (dk_at dksX4_bits_0 1 rfl rfl)
theorem dX4_bits_2 : decode cX4_bits 2 = .ok (.iload_n 0, 1) := dk_26 (dk_at dksX4_bits_0 2 rfl rfl)
theorem dX4_bits_3 : decode cX4_bits 3 = .ok (.istore_n 2, 1) := dk_61 (dk_at dksX4_bits_0 3 rfl rfl)
theorem dX4_bits_4 : decode cX4_bits 4 = .ok (.iload_n 2, 1) := dk_28 (dk_at dksX4_bits_0 4 rfl rfl)
theorem dX4_bits_5 : decode cX4_bits 5 = .ok (.ifCond .eq 15, 3) := dk_153 0 15 (dk_at dksX4_bits_0 5 rfl rfl)
theorem dX4_bits_8 : decode cX4_bits 8 = .ok (.iinc 1 1, 3) := dk_132 1 1 (dk_at dksX4_bits_0 8 rfl rfl)
theorem dX4_bits_11 : decode cX4_bits 11 = .ok (.iload_n 2, 1) := dk_28 (dk_at dksX4_bits_0 11 rfl rfl)
theorem dX4_bits_12 : decode cX4_bits 12 = .ok (.iload_n 2, 1) := dk_28 (dk_at dksX4_bits_0 12 rfl rfl)
theorem dX4_bits_13 : decode cX4_bits 13 = .ok (.iconst 1, 1) := dk_4 (dk_at dksX4_bits_0 13 rfl rfl)
theorem dX4_bits_14 : decode cX4_bits 14 = .ok (.isub, 1) := dk_100 (dk_at dksX4_bits_0 14 rfl rfl)
theorem dX4_bits_15 : decode cX4_bits 15 = .ok (.iand, 1) := dk_126 (dk_at dksX4_bits_0 15 rfl rfl)
theorem dX4_bits_16 : decode cX4_bits 16 = .ok (.istore_n 2, 1) := dk_61 (dk_at dksX4_bits_0 16 rfl rfl)
theorem dX4_bits_17 : decode cX4_bits 17 = .ok (.goto (-13), 3) := dk_167 255 243 (dk_at dksX4_bits_0 17 rfl rfl)
theorem dX4_bits_20 : decode cX4_bits 20 = .ok (.iload_n 1, 1) := dk_27 (dk_at dksX4_bits_0 20 rfl rfl)
theorem dX4_bits_21 : decode cX4_bits 21 = .ok (.ireturn, 1) := dk_172 (dk_at dksX4_bits_0 21 rfl rfl)
abbrev cX4_closestLoad : ByteArray := prog_21_method_36_code
def yX4_closestLoad : MethodName := ⟨RX4, "closestLoad", "(I)I"⟩
def dkwX4_closestLoad_2 : List UInt8 := [167, 0, 4, 28, 61, 132, 3, 1, 167, 255, 217, 28, 172]
abbrev dktX4_closestLoad_2 : List UInt8 := dkwX4_closestLoad_2 ++ []
def dkwX4_closestLoad_1 : List UInt8 := [162, 0, 35, 42, 29, 182, 0, 241, 54, 4, 21, 4, 27, 163, 0, 14, 21, 4, 28, 164, 0, 8, 21, 4]
abbrev dktX4_closestLoad_1 : List UInt8 := dkwX4_closestLoad_1 ++ dktX4_closestLoad_2
def dkwX4_closestLoad_0 : List UInt8 := [42, 3, 181, 0, 1, 27, 156, 0, 5, 2, 172, 3, 61, 3, 62, 29, 4, 42, 180, 0, 225, 120]
abbrev dktX4_closestLoad_0 : List UInt8 := dkwX4_closestLoad_0 ++ dktX4_closestLoad_1
theorem dksX4_closestLoad_0 : cX4_closestLoad.data.toList.drop 0 = dktX4_closestLoad_0 := by decide +kernel
theorem dksX4_closestLoad_1 : cX4_closestLoad.data.toList.drop 22 = dktX4_closestLoad_1 := dk_seg dksX4_closestLoad_0 22 rfl rfl
theorem dksX4_closestLoad_2 : cX4_closestLoad.data.toList.drop 46 = dktX4_closestLoad_2 := dk_seg dksX4_closestLoad_1 24 rfl rfl
theorem dX4_closestLoad_0 : decode cX4_closestLoad 0 = .ok (.aload_n 0, 1) := dk_42 (dk_at dksX4_closestLoad_0 0 rfl rfl)
theorem dX4_closestLoad_1 : decode cX4_closestLoad 1 = .ok (.iconst 0, 1) := dk_3 (dk_at dksX4_closestLoad_0 1 rfl rfl)
theorem dX4_closestLoad_2 : decode cX4_closestLoad 2 = .ok (.putfield 1, 3) := dk_181 0 1 (dk_at dksX4_closestLoad_0 2 rfl rfl)
theorem dX4_closestLoad_5 : decode cX4_closestLoad 5 = .ok (.iload_n 1, 1) := dk_27 (dk_at dksX4_closestLoad_0 5 rfl rfl)
theorem dX4_closestLoad_6 : decode cX4_closestLoad 6 = .ok (.ifCond .ge 5, 3) := dk_156 0 5 (dk_at dksX4_closestLoad_0 6 rfl rfl)
theorem dX4_closestLoad_9 : decode cX4_closestLoad 9 = .ok (.iconst (-1), 1) := dk_2 (dk_at dksX4_closestLoad_0 9 rfl rfl)
theorem dX4_closestLoad_10 : decode cX4_closestLoad 10 = .ok (.ireturn, 1) := dk_172 (dk_at dksX4_closestLoad_0 10 rfl rfl)
theorem dX4_closestLoad_11 : decode cX4_closestLoad 11 = .ok (.iconst 0, 1) := dk_3 (dk_at dksX4_closestLoad_0 11 rfl rfl)
theorem dX4_closestLoad_12 : decode cX4_closestLoad 12 = .ok (.istore_n 2, 1) := dk_61 (dk_at dksX4_closestLoad_0 12 rfl rfl)
theorem dX4_closestLoad_13 : decode cX4_closestLoad 13 = .ok (.iconst 0, 1) := dk_3 (dk_at dksX4_closestLoad_0 13 rfl rfl)
theorem dX4_closestLoad_14 : decode cX4_closestLoad 14 = .ok (.istore_n 3, 1) := dk_62 (dk_at dksX4_closestLoad_0 14 rfl rfl)
theorem dX4_closestLoad_15 : decode cX4_closestLoad 15 = .ok (.iload_n 3, 1) := dk_29 (dk_at dksX4_closestLoad_0 15 rfl rfl)
theorem dX4_closestLoad_16 : decode cX4_closestLoad 16 = .ok (.iconst 1, 1) := dk_4 (dk_at dksX4_closestLoad_0 16 rfl rfl)
theorem dX4_closestLoad_17 : decode cX4_closestLoad 17 = .ok (.aload_n 0, 1) := dk_42 (dk_at dksX4_closestLoad_0 17 rfl rfl)
theorem dX4_closestLoad_18 : decode cX4_closestLoad 18 = .ok (.getfield 225, 3) := dk_180 0 225 (dk_at dksX4_closestLoad_0 18 rfl rfl)
theorem dX4_closestLoad_21 : decode cX4_closestLoad 21 = .ok (.ishl, 1) := dk_120 (dk_at dksX4_closestLoad_0 21 rfl rfl)
theorem dX4_closestLoad_22 : decode cX4_closestLoad 22 = .ok (.if_icmp .ge 35, 3) := dk_162 0 35 (dk_at dksX4_closestLoad_1 0 rfl rfl)
theorem dX4_closestLoad_25 : decode cX4_closestLoad 25 = .ok (.aload_n 0, 1) := dk_42 (dk_at dksX4_closestLoad_1 3 rfl rfl)
theorem dX4_closestLoad_26 : decode cX4_closestLoad 26 = .ok (.iload_n 3, 1) := dk_29 (dk_at dksX4_closestLoad_1 4 rfl rfl)
theorem dX4_closestLoad_27 : decode cX4_closestLoad 27 = .ok (.invokevirtual 241, 3) := dk_182 0 241 (dk_at dksX4_closestLoad_1 5 rfl rfl)
theorem dX4_closestLoad_30 : decode cX4_closestLoad 30 = .ok (.istore 4, 2) := dk_54 4 (dk_at dksX4_closestLoad_1 8 rfl rfl)
theorem dX4_closestLoad_32 : decode cX4_closestLoad 32 = .ok (.iload 4, 2) := dk_21 4 (dk_at dksX4_closestLoad_1 10 rfl rfl)
theorem dX4_closestLoad_34 : decode cX4_closestLoad 34 = .ok (.iload_n 1, 1) := dk_27 (dk_at dksX4_closestLoad_1 12 rfl rfl)
theorem dX4_closestLoad_35 : decode cX4_closestLoad 35 = .ok (.if_icmp .gt 14, 3) := dk_163 0 14 (dk_at dksX4_closestLoad_1 13 rfl rfl)
theorem dX4_closestLoad_38 : decode cX4_closestLoad 38 = .ok (.iload 4, 2) := dk_21 4 (dk_at dksX4_closestLoad_1 16 rfl rfl)
theorem dX4_closestLoad_40 : decode cX4_closestLoad 40 = .ok (.iload_n 2, 1) := dk_28 (dk_at dksX4_closestLoad_1 18 rfl rfl)
theorem dX4_closestLoad_41 : decode cX4_closestLoad 41 = .ok (.if_icmp .le 8, 3) := dk_164 0 8 (dk_at dksX4_closestLoad_1 19 rfl rfl)
theorem dX4_closestLoad_44 : decode cX4_closestLoad 44 = .ok (.iload 4, 2) := dk_21 4 (dk_at dksX4_closestLoad_1 22 rfl rfl)
theorem dX4_closestLoad_46 : decode cX4_closestLoad 46 = .ok (.goto 4, 3) := dk_167 0 4 (dk_at dksX4_closestLoad_2 0 rfl rfl)
theorem dX4_closestLoad_49 : decode cX4_closestLoad 49 = .ok (.iload_n 2, 1) := dk_28 (dk_at dksX4_closestLoad_2 3 rfl rfl)
theorem dX4_closestLoad_50 : decode cX4_closestLoad 50 = .ok (.istore_n 2, 1) := dk_61 (dk_at dksX4_closestLoad_2 4 rfl rfl)
theorem dX4_closestLoad_51 : decode cX4_closestLoad 51 = .ok (.iinc 3 1, 3) := dk_132 3 1 (dk_at dksX4_closestLoad_2 5 rfl rfl)
theorem dX4_closestLoad_54 : decode cX4_closestLoad 54 = .ok (.goto (-39), 3) := dk_167 255 217 (dk_at dksX4_closestLoad_2 8 rfl rfl)
theorem dX4_closestLoad_57 : decode cX4_closestLoad 57 = .ok (.iload_n 2, 1) := dk_28 (dk_at dksX4_closestLoad_2 11 rfl rfl)
theorem dX4_closestLoad_58 : decode cX4_closestLoad 58 = .ok (.ireturn, 1) := dk_172 (dk_at dksX4_closestLoad_2 12 rfl rfl)
abbrev cX4_twoPans : ByteArray := prog_21_method_37_code
def yX4_twoPans : MethodName := ⟨RX4, "twoPans", "(I)I"⟩
def dkwX4_twoPans_6 : List UInt8 := [132, 6, 1, 167, 255, 176, 132, 5, 1, 167, 255, 161, 29, 172]
abbrev dktX4_twoPans_6 : List UInt8 := dkwX4_twoPans_6 ++ []
def dkwX4_twoPans_5 : List UInt8 := [162, 0, 23, 21, 6, 21, 5, 128, 184, 0, 244, 54, 4, 21, 5, 17, 4, 0, 21, 6, 104, 96, 62]
abbrev dktX4_twoPans_5 : List UInt8 := dkwX4_twoPans_5 ++ dktX4_twoPans_6
def dkwX4_twoPans_4 : List UInt8 := [46, 42, 180, 0, 73, 21, 6, 46, 100, 27, 160, 0, 36, 21, 6, 21, 5, 128, 184, 0, 244, 21, 4]
abbrev dktX4_twoPans_4 : List UInt8 := dkwX4_twoPans_4 ++ dktX4_twoPans_5
def dkwX4_twoPans_3 : List UInt8 := [180, 0, 73, 21, 5, 46, 27, 161, 0, 69, 21, 6, 21, 5, 126, 154, 0, 55, 42, 180, 0, 73, 21, 5]
abbrev dktX4_twoPans_3 : List UInt8 := dkwX4_twoPans_3 ++ dktX4_twoPans_4
def dkwX4_twoPans_2 : List UInt8 := [16, 99, 54, 4, 3, 54, 5, 21, 5, 28, 162, 0, 95, 3, 54, 6, 21, 6, 28, 162, 0, 80, 42]
abbrev dktX4_twoPans_2 : List UInt8 := dkwX4_twoPans_2 ++ dktX4_twoPans_3
def dkwX4_twoPans_1 : List UInt8 := [162, 0, 20, 42, 180, 0, 73, 29, 42, 29, 182, 0, 241, 79, 132, 3, 1, 167, 255, 237, 16, 254, 62]
abbrev dktX4_twoPans_1 : List UInt8 := dkwX4_twoPans_1 ++ dktX4_twoPans_2
def dkwX4_twoPans_0 : List UInt8 := [42, 3, 181, 0, 1, 27, 156, 0, 5, 2, 172, 4, 42, 180, 0, 225, 120, 61, 3, 62, 29, 28]
abbrev dktX4_twoPans_0 : List UInt8 := dkwX4_twoPans_0 ++ dktX4_twoPans_1
theorem dksX4_twoPans_0 : cX4_twoPans.data.toList.drop 0 = dktX4_twoPans_0 := by decide +kernel
theorem dksX4_twoPans_1 : cX4_twoPans.data.toList.drop 22 = dktX4_twoPans_1 := dk_seg dksX4_twoPans_0 22 rfl rfl
theorem dksX4_twoPans_2 : cX4_twoPans.data.toList.drop 45 = dktX4_twoPans_2 := dk_seg dksX4_twoPans_1 23 rfl rfl
theorem dksX4_twoPans_3 : cX4_twoPans.data.toList.drop 68 = dktX4_twoPans_3 := dk_seg dksX4_twoPans_2 23 rfl rfl
theorem dksX4_twoPans_4 : cX4_twoPans.data.toList.drop 92 = dktX4_twoPans_4 := dk_seg dksX4_twoPans_3 24 rfl rfl
theorem dksX4_twoPans_5 : cX4_twoPans.data.toList.drop 115 = dktX4_twoPans_5 := dk_seg dksX4_twoPans_4 23 rfl rfl
theorem dksX4_twoPans_6 : cX4_twoPans.data.toList.drop 138 = dktX4_twoPans_6 := dk_seg dksX4_twoPans_5 23 rfl rfl
theorem dX4_twoPans_0 : decode cX4_twoPans 0 = .ok (.aload_n 0, 1) := dk_42 (dk_at dksX4_twoPans_0 0 rfl rfl)
theorem dX4_twoPans_1 : decode cX4_twoPans 1 = .ok (.iconst 0, 1) := dk_3 (dk_at dksX4_twoPans_0 1 rfl rfl)
theorem dX4_twoPans_2 : decode cX4_twoPans 2 = .ok (.putfield 1, 3) := dk_181 0 1 (dk_at dksX4_twoPans_0 2 rfl rfl)
theorem dX4_twoPans_5 : decode cX4_twoPans 5 = .ok (.iload_n 1, 1) := dk_27 (dk_at dksX4_twoPans_0 5 rfl rfl)
theorem dX4_twoPans_6 : decode cX4_twoPans 6 = .ok (.ifCond .ge 5, 3) := dk_156 0 5 (dk_at dksX4_twoPans_0 6 rfl rfl)
theorem dX4_twoPans_9 : decode cX4_twoPans 9 = .ok (.iconst (-1), 1) := dk_2 (dk_at dksX4_twoPans_0 9 rfl rfl)
theorem dX4_twoPans_10 : decode cX4_twoPans 10 = .ok (.ireturn, 1) := dk_172 (dk_at dksX4_twoPans_0 10 rfl rfl)
theorem dX4_twoPans_11 : decode cX4_twoPans 11 = .ok (.iconst 1, 1) := dk_4 (dk_at dksX4_twoPans_0 11 rfl rfl)
theorem dX4_twoPans_12 : decode cX4_twoPans 12 = .ok (.aload_n 0, 1) := dk_42 (dk_at dksX4_twoPans_0 12 rfl rfl)
theorem dX4_twoPans_13 : decode cX4_twoPans 13 = .ok (.getfield 225, 3) := dk_180 0 225 (dk_at dksX4_twoPans_0 13 rfl rfl)
theorem dX4_twoPans_16 : decode cX4_twoPans 16 = .ok (.ishl, 1) := dk_120 (dk_at dksX4_twoPans_0 16 rfl rfl)
theorem dX4_twoPans_17 : decode cX4_twoPans 17 = .ok (.istore_n 2, 1) := dk_61 (dk_at dksX4_twoPans_0 17 rfl rfl)
theorem dX4_twoPans_18 : decode cX4_twoPans 18 = .ok (.iconst 0, 1) := dk_3 (dk_at dksX4_twoPans_0 18 rfl rfl)
theorem dX4_twoPans_19 : decode cX4_twoPans 19 = .ok (.istore_n 3, 1) := dk_62 (dk_at dksX4_twoPans_0 19 rfl rfl)
theorem dX4_twoPans_20 : decode cX4_twoPans 20 = .ok (.iload_n 3, 1) := dk_29 (dk_at dksX4_twoPans_0 20 rfl rfl)
theorem dX4_twoPans_21 : decode cX4_twoPans 21 = .ok (.iload_n 2, 1) := dk_28 (dk_at dksX4_twoPans_0 21 rfl rfl)
theorem dX4_twoPans_22 : decode cX4_twoPans 22 = .ok (.if_icmp .ge 20, 3) := dk_162 0 20 (dk_at dksX4_twoPans_1 0 rfl rfl)
theorem dX4_twoPans_25 : decode cX4_twoPans 25 = .ok (.aload_n 0, 1) := dk_42 (dk_at dksX4_twoPans_1 3 rfl rfl)
theorem dX4_twoPans_26 : decode cX4_twoPans 26 = .ok (.getfield 73, 3) := dk_180 0 73 (dk_at dksX4_twoPans_1 4 rfl rfl)
theorem dX4_twoPans_29 : decode cX4_twoPans 29 = .ok (.iload_n 3, 1) := dk_29 (dk_at dksX4_twoPans_1 7 rfl rfl)
theorem dX4_twoPans_30 : decode cX4_twoPans 30 = .ok (.aload_n 0, 1) := dk_42 (dk_at dksX4_twoPans_1 8 rfl rfl)
theorem dX4_twoPans_31 : decode cX4_twoPans 31 = .ok (.iload_n 3, 1) := dk_29 (dk_at dksX4_twoPans_1 9 rfl rfl)
theorem dX4_twoPans_32 : decode cX4_twoPans 32 = .ok (.invokevirtual 241, 3) := dk_182 0 241 (dk_at dksX4_twoPans_1 10 rfl rfl)
theorem dX4_twoPans_35 : decode cX4_twoPans 35 = .ok (.iastore, 1) := dk_79 (dk_at dksX4_twoPans_1 13 rfl rfl)
theorem dX4_twoPans_36 : decode cX4_twoPans 36 = .ok (.iinc 3 1, 3) := dk_132 3 1 (dk_at dksX4_twoPans_1 14 rfl rfl)
theorem dX4_twoPans_39 : decode cX4_twoPans 39 = .ok (.goto (-19), 3) := dk_167 255 237 (dk_at dksX4_twoPans_1 17 rfl rfl)
theorem dX4_twoPans_42 : decode cX4_twoPans 42 = .ok (.bipush (-2), 2) := dk_16 254 (dk_at dksX4_twoPans_1 20 rfl rfl)
theorem dX4_twoPans_44 : decode cX4_twoPans 44 = .ok (.istore_n 3, 1) := dk_62 (dk_at dksX4_twoPans_1 22 rfl rfl)
theorem dX4_twoPans_45 : decode cX4_twoPans 45 = .ok (.bipush 99, 2) := dk_16 99 (dk_at dksX4_twoPans_2 0 rfl rfl)
theorem dX4_twoPans_47 : decode cX4_twoPans 47 = .ok (.istore 4, 2) := dk_54 4 (dk_at dksX4_twoPans_2 2 rfl rfl)
theorem dX4_twoPans_49 : decode cX4_twoPans 49 = .ok (.iconst 0, 1) := dk_3 (dk_at dksX4_twoPans_2 4 rfl rfl)
theorem dX4_twoPans_50 : decode cX4_twoPans 50 = .ok (.istore 5, 2) := dk_54 5 (dk_at dksX4_twoPans_2 5 rfl rfl)
theorem dX4_twoPans_52 : decode cX4_twoPans 52 = .ok (.iload 5, 2) := dk_21 5 (dk_at dksX4_twoPans_2 7 rfl rfl)
theorem dX4_twoPans_54 : decode cX4_twoPans 54 = .ok (.iload_n 2, 1) := dk_28 (dk_at dksX4_twoPans_2 9 rfl rfl)
theorem dX4_twoPans_55 : decode cX4_twoPans 55 = .ok (.if_icmp .ge 95, 3) := dk_162 0 95 (dk_at dksX4_twoPans_2 10 rfl rfl)
theorem dX4_twoPans_58 : decode cX4_twoPans 58 = .ok (.iconst 0, 1) := dk_3 (dk_at dksX4_twoPans_2 13 rfl rfl)
theorem dX4_twoPans_59 : decode cX4_twoPans 59 = .ok (.istore 6, 2) := dk_54 6 (dk_at dksX4_twoPans_2 14 rfl rfl)
theorem dX4_twoPans_61 : decode cX4_twoPans 61 = .ok (.iload 6, 2) := dk_21 6 (dk_at dksX4_twoPans_2 16 rfl rfl)
theorem dX4_twoPans_63 : decode cX4_twoPans 63 = .ok (.iload_n 2, 1) := dk_28 (dk_at dksX4_twoPans_2 18 rfl rfl)
theorem dX4_twoPans_64 : decode cX4_twoPans 64 = .ok (.if_icmp .ge 80, 3) := dk_162 0 80 (dk_at dksX4_twoPans_2 19 rfl rfl)
theorem dX4_twoPans_67 : decode cX4_twoPans 67 = .ok (.aload_n 0, 1) := dk_42 (dk_at dksX4_twoPans_2 22 rfl rfl)
theorem dX4_twoPans_68 : decode cX4_twoPans 68 = .ok (.getfield 73, 3) := dk_180 0 73 (dk_at dksX4_twoPans_3 0 rfl rfl)
theorem dX4_twoPans_71 : decode cX4_twoPans 71 = .ok (.iload 5, 2) := dk_21 5 (dk_at dksX4_twoPans_3 3 rfl rfl)
theorem dX4_twoPans_73 : decode cX4_twoPans 73 = .ok (.iaload, 1) := dk_46 (dk_at dksX4_twoPans_3 5 rfl rfl)
theorem dX4_twoPans_74 : decode cX4_twoPans 74 = .ok (.iload_n 1, 1) := dk_27 (dk_at dksX4_twoPans_3 6 rfl rfl)
theorem dX4_twoPans_75 : decode cX4_twoPans 75 = .ok (.if_icmp .lt 69, 3) := dk_161 0 69 (dk_at dksX4_twoPans_3 7 rfl rfl)
theorem dX4_twoPans_78 : decode cX4_twoPans 78 = .ok (.iload 6, 2) := dk_21 6 (dk_at dksX4_twoPans_3 10 rfl rfl)
theorem dX4_twoPans_80 : decode cX4_twoPans 80 = .ok (.iload 5, 2) := dk_21 5 (dk_at dksX4_twoPans_3 12 rfl rfl)
theorem dX4_twoPans_82 : decode cX4_twoPans 82 = .ok (.iand, 1) := dk_126 (dk_at dksX4_twoPans_3 14 rfl rfl)
theorem dX4_twoPans_83 : decode cX4_twoPans 83 = .ok (.ifCond .ne 55, 3) := dk_154 0 55 (dk_at dksX4_twoPans_3 15 rfl rfl)
theorem dX4_twoPans_86 : decode cX4_twoPans 86 = .ok (.aload_n 0, 1) := dk_42 (dk_at dksX4_twoPans_3 18 rfl rfl)
theorem dX4_twoPans_87 : decode cX4_twoPans 87 = .ok (.getfield 73, 3) := dk_180 0 73 (dk_at dksX4_twoPans_3 19 rfl rfl)
theorem dX4_twoPans_90 : decode cX4_twoPans 90 = .ok (.iload 5, 2) := dk_21 5 (dk_at dksX4_twoPans_3 22 rfl rfl)
theorem dX4_twoPans_92 : decode cX4_twoPans 92 = .ok (.iaload, 1) := dk_46 (dk_at dksX4_twoPans_4 0 rfl rfl)
theorem dX4_twoPans_93 : decode cX4_twoPans 93 = .ok (.aload_n 0, 1) := dk_42 (dk_at dksX4_twoPans_4 1 rfl rfl)
theorem dX4_twoPans_94 : decode cX4_twoPans 94 = .ok (.getfield 73, 3) := dk_180 0 73 (dk_at dksX4_twoPans_4 2 rfl rfl)
theorem dX4_twoPans_97 : decode cX4_twoPans 97 = .ok (.iload 6, 2) := dk_21 6 (dk_at dksX4_twoPans_4 5 rfl rfl)
theorem dX4_twoPans_99 : decode cX4_twoPans 99 = .ok (.iaload, 1) := dk_46 (dk_at dksX4_twoPans_4 7 rfl rfl)
theorem dX4_twoPans_100 : decode cX4_twoPans 100 = .ok (.isub, 1) := dk_100 (dk_at dksX4_twoPans_4 8 rfl rfl)
theorem dX4_twoPans_101 : decode cX4_twoPans 101 = .ok (.iload_n 1, 1) := dk_27 (dk_at dksX4_twoPans_4 9 rfl rfl)
theorem dX4_twoPans_102 : decode cX4_twoPans 102 = .ok (.if_icmp .ne 36, 3) := dk_160 0 36 (dk_at dksX4_twoPans_4 10 rfl rfl)
theorem dX4_twoPans_105 : decode cX4_twoPans 105 = .ok (.iload 6, 2) := dk_21 6 (dk_at dksX4_twoPans_4 13 rfl rfl)
theorem dX4_twoPans_107 : decode cX4_twoPans 107 = .ok (.iload 5, 2) := dk_21 5 (dk_at dksX4_twoPans_4 15 rfl rfl)
theorem dX4_twoPans_109 : decode cX4_twoPans 109 = .ok (.ior, 1) := dk_128 (dk_at dksX4_twoPans_4 17 rfl rfl)
theorem dX4_twoPans_110 : decode cX4_twoPans 110 = .ok (.invokestatic 244, 3) := dk_184 0 244 (dk_at dksX4_twoPans_4 18 rfl rfl)
theorem dX4_twoPans_113 : decode cX4_twoPans 113 = .ok (.iload 4, 2) := dk_21 4 (dk_at dksX4_twoPans_4 21 rfl rfl)
theorem dX4_twoPans_115 : decode cX4_twoPans 115 = .ok (.if_icmp .ge 23, 3) := dk_162 0 23 (dk_at dksX4_twoPans_5 0 rfl rfl)
theorem dX4_twoPans_118 : decode cX4_twoPans 118 = .ok (.iload 6, 2) := dk_21 6 (dk_at dksX4_twoPans_5 3 rfl rfl)
theorem dX4_twoPans_120 : decode cX4_twoPans 120 = .ok (.iload 5, 2) := dk_21 5 (dk_at dksX4_twoPans_5 5 rfl rfl)
theorem dX4_twoPans_122 : decode cX4_twoPans 122 = .ok (.ior, 1) := dk_128 (dk_at dksX4_twoPans_5 7 rfl rfl)
theorem dX4_twoPans_123 : decode cX4_twoPans 123 = .ok (.invokestatic 244, 3) := dk_184 0 244 (dk_at dksX4_twoPans_5 8 rfl rfl)
theorem dX4_twoPans_126 : decode cX4_twoPans 126 = .ok (.istore 4, 2) := dk_54 4 (dk_at dksX4_twoPans_5 11 rfl rfl)
theorem dX4_twoPans_128 : decode cX4_twoPans 128 = .ok (.iload 5, 2) := dk_21 5 (dk_at dksX4_twoPans_5 13 rfl rfl)
theorem dX4_twoPans_130 : decode cX4_twoPans 130 = .ok (.sipush 1024, 3) := dk_17 4 0 (dk_at dksX4_twoPans_5 15 rfl rfl)
theorem dX4_twoPans_133 : decode cX4_twoPans 133 = .ok (.iload 6, 2) := dk_21 6 (dk_at dksX4_twoPans_5 18 rfl rfl)
theorem dX4_twoPans_135 : decode cX4_twoPans 135 = .ok (.imul, 1) := dk_104 (dk_at dksX4_twoPans_5 20 rfl rfl)
theorem dX4_twoPans_136 : decode cX4_twoPans 136 = .ok (.iadd, 1) := dk_96 (dk_at dksX4_twoPans_5 21 rfl rfl)
theorem dX4_twoPans_137 : decode cX4_twoPans 137 = .ok (.istore_n 3, 1) := dk_62 (dk_at dksX4_twoPans_5 22 rfl rfl)
theorem dX4_twoPans_138 : decode cX4_twoPans 138 = .ok (.iinc 6 1, 3) := dk_132 6 1 (dk_at dksX4_twoPans_6 0 rfl rfl)
theorem dX4_twoPans_141 : decode cX4_twoPans 141 = .ok (.goto (-80), 3) := dk_167 255 176 (dk_at dksX4_twoPans_6 3 rfl rfl)
theorem dX4_twoPans_144 : decode cX4_twoPans 144 = .ok (.iinc 5 1, 3) := dk_132 5 1 (dk_at dksX4_twoPans_6 6 rfl rfl)
theorem dX4_twoPans_147 : decode cX4_twoPans 147 = .ok (.goto (-95), 3) := dk_167 255 161 (dk_at dksX4_twoPans_6 9 rfl rfl)
theorem dX4_twoPans_150 : decode cX4_twoPans 150 = .ok (.iload_n 3, 1) := dk_29 (dk_at dksX4_twoPans_6 12 rfl rfl)
theorem dX4_twoPans_151 : decode cX4_twoPans 151 = .ok (.ireturn, 1) := dk_172 (dk_at dksX4_twoPans_6 13 rfl rfl)
abbrev cX4_startVisit : ByteArray := prog_21_method_39_code
def yX4_startVisit : MethodName := ⟨RX4, "startVisit", "(II)I"⟩
def dkwX4_startVisit_10 : List UInt8 := [21, 5, 96, 3, 79, 42, 180, 0, 13, 3, 92, 46, 4, 96, 79, 21, 5, 172]
abbrev dktX4_startVisit_10 : List UInt8 := dkwX4_startVisit_10 ++ []
def dkwX4_startVisit_9 : List UInt8 := [21, 5, 96, 3, 79, 42, 180, 0, 13, 16, 121, 21, 5, 96, 21, 4, 79, 42, 180, 0, 13, 17, 0, 151]
abbrev dktX4_startVisit_9 : List UInt8 := dkwX4_startVisit_9 ++ dktX4_startVisit_10
def dkwX4_startVisit_8 : List UInt8 := [16, 31, 21, 5, 96, 28, 79, 42, 180, 0, 13, 16, 61, 21, 5, 96, 3, 79, 42, 180, 0, 13, 16, 91]
abbrev dktX4_startVisit_8 : List UInt8 := dkwX4_startVisit_8 ++ dktX4_startVisit_9
def dkwX4_startVisit_7 : List UInt8 := [160, 0, 6, 16, 253, 172, 42, 182, 0, 249, 42, 180, 0, 13, 4, 21, 5, 96, 27, 79, 42, 180, 0, 13]
abbrev dktX4_startVisit_7 : List UInt8 := dkwX4_startVisit_7 ++ dktX4_startVisit_8
def dkwX4_startVisit_6 : List UInt8 := [167, 255, 152, 29, 153, 0, 6, 16, 254, 172, 42, 180, 0, 13, 3, 46, 54, 5, 21, 5, 16, 30]
abbrev dktX4_startVisit_6 : List UInt8 := dkwX4_startVisit_6 ++ dktX4_startVisit_7
def dkwX4_startVisit_5 : List UInt8 := [180, 0, 13, 16, 91, 21, 5, 96, 46, 154, 0, 7, 4, 167, 0, 5, 21, 4, 54, 4, 132, 5, 1]
abbrev dktX4_startVisit_5 : List UInt8 := dkwX4_startVisit_5 ++ dktX4_startVisit_6
def dkwX4_startVisit_4 : List UInt8 := [154, 0, 7, 4, 167, 0, 4, 3, 62, 42, 180, 0, 13, 16, 61, 21, 5, 96, 46, 4, 160, 0, 20, 42]
abbrev dktX4_startVisit_4 : List UInt8 := dkwX4_startVisit_4 ++ dktX4_startVisit_5
def dkwX4_startVisit_3 : List UInt8 := [96, 46, 28, 164, 0, 5, 2, 172, 29, 154, 0, 16, 42, 180, 0, 13, 16, 61, 21, 5, 96, 46]
abbrev dktX4_startVisit_3 : List UInt8 := dkwX4_startVisit_3 ++ dktX4_startVisit_4
def dkwX4_startVisit_2 : List UInt8 := [42, 180, 0, 13, 4, 21, 5, 96, 46, 27, 159, 0, 6, 167, 0, 77, 42, 180, 0, 13, 16, 31, 21, 5]
abbrev dktX4_startVisit_2 : List UInt8 := dkwX4_startVisit_2 ++ dktX4_startVisit_3
def dkwX4_startVisit_1 : List UInt8 := [154, 0, 5, 2, 172, 3, 62, 3, 54, 4, 3, 54, 5, 21, 5, 42, 180, 0, 13, 3, 46, 162, 0, 99]
abbrev dktX4_startVisit_1 : List UInt8 := dkwX4_startVisit_1 ++ dktX4_startVisit_2
def dkwX4_startVisit_0 : List UInt8 := [42, 3, 181, 0, 1, 42, 27, 182, 0, 234, 153, 0, 15, 28, 133, 9, 20, 0, 247, 184, 0, 124]
abbrev dktX4_startVisit_0 : List UInt8 := dkwX4_startVisit_0 ++ dktX4_startVisit_1
theorem dksX4_startVisit_0 : cX4_startVisit.data.toList.drop 0 = dktX4_startVisit_0 := by decide +kernel
theorem dksX4_startVisit_1 : cX4_startVisit.data.toList.drop 22 = dktX4_startVisit_1 := dk_seg dksX4_startVisit_0 22 rfl rfl
theorem dksX4_startVisit_2 : cX4_startVisit.data.toList.drop 46 = dktX4_startVisit_2 := dk_seg dksX4_startVisit_1 24 rfl rfl
theorem dksX4_startVisit_3 : cX4_startVisit.data.toList.drop 70 = dktX4_startVisit_3 := dk_seg dksX4_startVisit_2 24 rfl rfl
theorem dksX4_startVisit_4 : cX4_startVisit.data.toList.drop 92 = dktX4_startVisit_4 := dk_seg dksX4_startVisit_3 22 rfl rfl
theorem dksX4_startVisit_5 : cX4_startVisit.data.toList.drop 116 = dktX4_startVisit_5 := dk_seg dksX4_startVisit_4 24 rfl rfl
theorem dksX4_startVisit_6 : cX4_startVisit.data.toList.drop 139 = dktX4_startVisit_6 := dk_seg dksX4_startVisit_5 23 rfl rfl
theorem dksX4_startVisit_7 : cX4_startVisit.data.toList.drop 161 = dktX4_startVisit_7 := dk_seg dksX4_startVisit_6 22 rfl rfl
theorem dksX4_startVisit_8 : cX4_startVisit.data.toList.drop 185 = dktX4_startVisit_8 := dk_seg dksX4_startVisit_7 24 rfl rfl
theorem dksX4_startVisit_9 : cX4_startVisit.data.toList.drop 209 = dktX4_startVisit_9 := dk_seg dksX4_startVisit_8 24 rfl rfl
theorem dksX4_startVisit_10 : cX4_startVisit.data.toList.drop 233 = dktX4_startVisit_10 := dk_seg dksX4_startVisit_9 24 rfl rfl
theorem dX4_startVisit_0 : decode cX4_startVisit 0 = .ok (.aload_n 0, 1) := dk_42 (dk_at dksX4_startVisit_0 0 rfl rfl)
theorem dX4_startVisit_1 : decode cX4_startVisit 1 = .ok (.iconst 0, 1) := dk_3 (dk_at dksX4_startVisit_0 1 rfl rfl)
theorem dX4_startVisit_2 : decode cX4_startVisit 2 = .ok (.putfield 1, 3) := dk_181 0 1 (dk_at dksX4_startVisit_0 2 rfl rfl)
theorem dX4_startVisit_5 : decode cX4_startVisit 5 = .ok (.aload_n 0, 1) := dk_42 (dk_at dksX4_startVisit_0 5 rfl rfl)
theorem dX4_startVisit_6 : decode cX4_startVisit 6 = .ok (.iload_n 1, 1) := dk_27 (dk_at dksX4_startVisit_0 6 rfl rfl)
theorem dX4_startVisit_7 : decode cX4_startVisit 7 = .ok (.invokevirtual 234, 3) := dk_182 0 234 (dk_at dksX4_startVisit_0 7 rfl rfl)
theorem dX4_startVisit_10 : decode cX4_startVisit 10 = .ok (.ifCond .eq 15, 3) := dk_153 0 15 (dk_at dksX4_startVisit_0 10 rfl rfl)
theorem dX4_startVisit_13 : decode cX4_startVisit 13 = .ok (.iload_n 2, 1) := dk_28 (dk_at dksX4_startVisit_0 13 rfl rfl)
theorem dX4_startVisit_14 : decode cX4_startVisit 14 = .ok (.i2l, 1) := dk_133 (dk_at dksX4_startVisit_0 14 rfl rfl)
theorem dX4_startVisit_15 : decode cX4_startVisit 15 = .ok (.lconst 0, 1) := dk_9 (dk_at dksX4_startVisit_0 15 rfl rfl)
theorem dX4_startVisit_16 : decode cX4_startVisit 16 = .ok (.ldc2_w 247, 3) := dk_20 0 247 (dk_at dksX4_startVisit_0 16 rfl rfl)
theorem dX4_startVisit_19 : decode cX4_startVisit 19 = .ok (.invokestatic 124, 3) := dk_184 0 124 (dk_at dksX4_startVisit_0 19 rfl rfl)
theorem dX4_startVisit_22 : decode cX4_startVisit 22 = .ok (.ifCond .ne 5, 3) := dk_154 0 5 (dk_at dksX4_startVisit_1 0 rfl rfl)
theorem dX4_startVisit_25 : decode cX4_startVisit 25 = .ok (.iconst (-1), 1) := dk_2 (dk_at dksX4_startVisit_1 3 rfl rfl)
theorem dX4_startVisit_26 : decode cX4_startVisit 26 = .ok (.ireturn, 1) := dk_172 (dk_at dksX4_startVisit_1 4 rfl rfl)
theorem dX4_startVisit_27 : decode cX4_startVisit 27 = .ok (.iconst 0, 1) := dk_3 (dk_at dksX4_startVisit_1 5 rfl rfl)
theorem dX4_startVisit_28 : decode cX4_startVisit 28 = .ok (.istore_n 3, 1) := dk_62 (dk_at dksX4_startVisit_1 6 rfl rfl)
theorem dX4_startVisit_29 : decode cX4_startVisit 29 = .ok (.iconst 0, 1) := dk_3 (dk_at dksX4_startVisit_1 7 rfl rfl)
theorem dX4_startVisit_30 : decode cX4_startVisit 30 = .ok (.istore 4, 2) := dk_54 4 (dk_at dksX4_startVisit_1 8 rfl rfl)
theorem dX4_startVisit_32 : decode cX4_startVisit 32 = .ok (.iconst 0, 1) := dk_3 (dk_at dksX4_startVisit_1 10 rfl rfl)
theorem dX4_startVisit_33 : decode cX4_startVisit 33 = .ok (.istore 5, 2) := dk_54 5 (dk_at dksX4_startVisit_1 11 rfl rfl)
theorem dX4_startVisit_35 : decode cX4_startVisit 35 = .ok (.iload 5, 2) := dk_21 5 (dk_at dksX4_startVisit_1 13 rfl rfl)
theorem dX4_startVisit_37 : decode cX4_startVisit 37 = .ok (.aload_n 0, 1) := dk_42 (dk_at dksX4_startVisit_1 15 rfl rfl)
theorem dX4_startVisit_38 : decode cX4_startVisit 38 = .ok (.getfield 13, 3) := dk_180 0 13 (dk_at dksX4_startVisit_1 16 rfl rfl)
theorem dX4_startVisit_41 : decode cX4_startVisit 41 = .ok (.iconst 0, 1) := dk_3 (dk_at dksX4_startVisit_1 19 rfl rfl)
theorem dX4_startVisit_42 : decode cX4_startVisit 42 = .ok (.iaload, 1) := dk_46 (dk_at dksX4_startVisit_1 20 rfl rfl)
theorem dX4_startVisit_43 : decode cX4_startVisit 43 = .ok (.if_icmp .ge 99, 3) := dk_162 0 99 (dk_at dksX4_startVisit_1 21 rfl rfl)
theorem dX4_startVisit_46 : decode cX4_startVisit 46 = .ok (.aload_n 0, 1) := dk_42 (dk_at dksX4_startVisit_2 0 rfl rfl)
theorem dX4_startVisit_47 : decode cX4_startVisit 47 = .ok (.getfield 13, 3) := dk_180 0 13 (dk_at dksX4_startVisit_2 1 rfl rfl)
theorem dX4_startVisit_50 : decode cX4_startVisit 50 = .ok (.iconst 1, 1) := dk_4 (dk_at dksX4_startVisit_2 4 rfl rfl)
theorem dX4_startVisit_51 : decode cX4_startVisit 51 = .ok (.iload 5, 2) := dk_21 5 (dk_at dksX4_startVisit_2 5 rfl rfl)
theorem dX4_startVisit_53 : decode cX4_startVisit 53 = .ok (.iadd, 1) := dk_96 (dk_at dksX4_startVisit_2 7 rfl rfl)
theorem dX4_startVisit_54 : decode cX4_startVisit 54 = .ok (.iaload, 1) := dk_46 (dk_at dksX4_startVisit_2 8 rfl rfl)
theorem dX4_startVisit_55 : decode cX4_startVisit 55 = .ok (.iload_n 1, 1) := dk_27 (dk_at dksX4_startVisit_2 9 rfl rfl)
theorem dX4_startVisit_56 : decode cX4_startVisit 56 = .ok (.if_icmp .eq 6, 3) := dk_159 0 6 (dk_at dksX4_startVisit_2 10 rfl rfl)
theorem dX4_startVisit_59 : decode cX4_startVisit 59 = .ok (.goto 77, 3) := dk_167 0 77 (dk_at dksX4_startVisit_2 13 rfl rfl)
theorem dX4_startVisit_62 : decode cX4_startVisit 62 = .ok (.aload_n 0, 1) := dk_42 (dk_at dksX4_startVisit_2 16 rfl rfl)
theorem dX4_startVisit_63 : decode cX4_startVisit 63 = .ok (.getfield 13, 3) := dk_180 0 13 (dk_at dksX4_startVisit_2 17 rfl rfl)
theorem dX4_startVisit_66 : decode cX4_startVisit 66 = .ok (.bipush 31, 2) := dk_16 31 (dk_at dksX4_startVisit_2 20 rfl rfl)
theorem dX4_startVisit_68 : decode cX4_startVisit 68 = .ok (.iload 5, 2) := dk_21 5 (dk_at dksX4_startVisit_2 22 rfl rfl)
theorem dX4_startVisit_70 : decode cX4_startVisit 70 = .ok (.iadd, 1) := dk_96 (dk_at dksX4_startVisit_3 0 rfl rfl)
theorem dX4_startVisit_71 : decode cX4_startVisit 71 = .ok (.iaload, 1) := dk_46 (dk_at dksX4_startVisit_3 1 rfl rfl)
theorem dX4_startVisit_72 : decode cX4_startVisit 72 = .ok (.iload_n 2, 1) := dk_28 (dk_at dksX4_startVisit_3 2 rfl rfl)
theorem dX4_startVisit_73 : decode cX4_startVisit 73 = .ok (.if_icmp .le 5, 3) := dk_164 0 5 (dk_at dksX4_startVisit_3 3 rfl rfl)
theorem dX4_startVisit_76 : decode cX4_startVisit 76 = .ok (.iconst (-1), 1) := dk_2 (dk_at dksX4_startVisit_3 6 rfl rfl)
theorem dX4_startVisit_77 : decode cX4_startVisit 77 = .ok (.ireturn, 1) := dk_172 (dk_at dksX4_startVisit_3 7 rfl rfl)
theorem dX4_startVisit_78 : decode cX4_startVisit 78 = .ok (.iload_n 3, 1) := dk_29 (dk_at dksX4_startVisit_3 8 rfl rfl)
theorem dX4_startVisit_79 : decode cX4_startVisit 79 = .ok (.ifCond .ne 16, 3) := dk_154 0 16 (dk_at dksX4_startVisit_3 9 rfl rfl)
theorem dX4_startVisit_82 : decode cX4_startVisit 82 = .ok (.aload_n 0, 1) := dk_42 (dk_at dksX4_startVisit_3 12 rfl rfl)
theorem dX4_startVisit_83 : decode cX4_startVisit 83 = .ok (.getfield 13, 3) := dk_180 0 13 (dk_at dksX4_startVisit_3 13 rfl rfl)
theorem dX4_startVisit_86 : decode cX4_startVisit 86 = .ok (.bipush 61, 2) := dk_16 61 (dk_at dksX4_startVisit_3 16 rfl rfl)
theorem dX4_startVisit_88 : decode cX4_startVisit 88 = .ok (.iload 5, 2) := dk_21 5 (dk_at dksX4_startVisit_3 18 rfl rfl)
theorem dX4_startVisit_90 : decode cX4_startVisit 90 = .ok (.iadd, 1) := dk_96 (dk_at dksX4_startVisit_3 20 rfl rfl)
theorem dX4_startVisit_91 : decode cX4_startVisit 91 = .ok (.iaload, 1) := dk_46 (dk_at dksX4_startVisit_3 21 rfl rfl)
theorem dX4_startVisit_92 : decode cX4_startVisit 92 = .ok (.ifCond .ne 7, 3) := dk_154 0 7 (dk_at dksX4_startVisit_4 0 rfl rfl)
theorem dX4_startVisit_95 : decode cX4_startVisit 95 = .ok (.iconst 1, 1) := dk_4 (dk_at dksX4_startVisit_4 3 rfl rfl)
theorem dX4_startVisit_96 : decode cX4_startVisit 96 = .ok (.goto 4, 3) := dk_167 0 4 (dk_at dksX4_startVisit_4 4 rfl rfl)
theorem dX4_startVisit_99 : decode cX4_startVisit 99 = .ok (.iconst 0, 1) := dk_3 (dk_at dksX4_startVisit_4 7 rfl rfl)
theorem dX4_startVisit_100 : decode cX4_startVisit 100 = .ok (.istore_n 3, 1) := dk_62 (dk_at dksX4_startVisit_4 8 rfl rfl)
theorem dX4_startVisit_101 : decode cX4_startVisit 101 = .ok (.aload_n 0, 1) := dk_42 (dk_at dksX4_startVisit_4 9 rfl rfl)
theorem dX4_startVisit_102 : decode cX4_startVisit 102 = .ok (.getfield 13, 3) := dk_180 0 13 (dk_at dksX4_startVisit_4 10 rfl rfl)
theorem dX4_startVisit_105 : decode cX4_startVisit 105 = .ok (.bipush 61, 2) := dk_16 61 (dk_at dksX4_startVisit_4 13 rfl rfl)
theorem dX4_startVisit_107 : decode cX4_startVisit 107 = .ok (.iload 5, 2) := dk_21 5 (dk_at dksX4_startVisit_4 15 rfl rfl)
theorem dX4_startVisit_109 : decode cX4_startVisit 109 = .ok (.iadd, 1) := dk_96 (dk_at dksX4_startVisit_4 17 rfl rfl)
theorem dX4_startVisit_110 : decode cX4_startVisit 110 = .ok (.iaload, 1) := dk_46 (dk_at dksX4_startVisit_4 18 rfl rfl)
theorem dX4_startVisit_111 : decode cX4_startVisit 111 = .ok (.iconst 1, 1) := dk_4 (dk_at dksX4_startVisit_4 19 rfl rfl)
theorem dX4_startVisit_112 : decode cX4_startVisit 112 = .ok (.if_icmp .ne 20, 3) := dk_160 0 20 (dk_at dksX4_startVisit_4 20 rfl rfl)
theorem dX4_startVisit_115 : decode cX4_startVisit 115 = .ok (.aload_n 0, 1) := dk_42 (dk_at dksX4_startVisit_4 23 rfl rfl)
theorem dX4_startVisit_116 : decode cX4_startVisit 116 = .ok (.getfield 13, 3) := dk_180 0 13 (dk_at dksX4_startVisit_5 0 rfl rfl)
theorem dX4_startVisit_119 : decode cX4_startVisit 119 = .ok (.bipush 91, 2) := dk_16 91 (dk_at dksX4_startVisit_5 3 rfl rfl)
theorem dX4_startVisit_121 : decode cX4_startVisit 121 = .ok (.iload 5, 2) := dk_21 5 (dk_at dksX4_startVisit_5 5 rfl rfl)
theorem dX4_startVisit_123 : decode cX4_startVisit 123 = .ok (.iadd, 1) := dk_96 (dk_at dksX4_startVisit_5 7 rfl rfl)
theorem dX4_startVisit_124 : decode cX4_startVisit 124 = .ok (.iaload, 1) := dk_46 (dk_at dksX4_startVisit_5 8 rfl rfl)
theorem dX4_startVisit_125 : decode cX4_startVisit 125 = .ok (.ifCond .ne 7, 3) := dk_154 0 7 (dk_at dksX4_startVisit_5 9 rfl rfl)
theorem dX4_startVisit_128 : decode cX4_startVisit 128 = .ok (.iconst 1, 1) := dk_4 (dk_at dksX4_startVisit_5 12 rfl rfl)
theorem dX4_startVisit_129 : decode cX4_startVisit 129 = .ok (.goto 5, 3) := dk_167 0 5 (dk_at dksX4_startVisit_5 13 rfl rfl)
theorem dX4_startVisit_132 : decode cX4_startVisit 132 = .ok (.iload 4, 2) := dk_21 4 (dk_at dksX4_startVisit_5 16 rfl rfl)
theorem dX4_startVisit_134 : decode cX4_startVisit 134 = .ok (.istore 4, 2) := dk_54 4 (dk_at dksX4_startVisit_5 18 rfl rfl)
theorem dX4_startVisit_136 : decode cX4_startVisit 136 = .ok (.iinc 5 1, 3) := dk_132 5 1 (dk_at dksX4_startVisit_5 20 rfl rfl)
theorem dX4_startVisit_139 : decode cX4_startVisit 139 = .ok (.goto (-104), 3) := dk_167 255 152 (dk_at dksX4_startVisit_6 0 rfl rfl)
theorem dX4_startVisit_142 : decode cX4_startVisit 142 = .ok (.iload_n 3, 1) := dk_29 (dk_at dksX4_startVisit_6 3 rfl rfl)
theorem dX4_startVisit_143 : decode cX4_startVisit 143 = .ok (.ifCond .eq 6, 3) := dk_153 0 6 (dk_at dksX4_startVisit_6 4 rfl rfl)
theorem dX4_startVisit_146 : decode cX4_startVisit 146 = .ok (.bipush (-2), 2) := dk_16 254 (dk_at dksX4_startVisit_6 7 rfl rfl)
theorem dX4_startVisit_148 : decode cX4_startVisit 148 = .ok (.ireturn, 1) := dk_172 (dk_at dksX4_startVisit_6 9 rfl rfl)
theorem dX4_startVisit_149 : decode cX4_startVisit 149 = .ok (.aload_n 0, 1) := dk_42 (dk_at dksX4_startVisit_6 10 rfl rfl)
theorem dX4_startVisit_150 : decode cX4_startVisit 150 = .ok (.getfield 13, 3) := dk_180 0 13 (dk_at dksX4_startVisit_6 11 rfl rfl)
theorem dX4_startVisit_153 : decode cX4_startVisit 153 = .ok (.iconst 0, 1) := dk_3 (dk_at dksX4_startVisit_6 14 rfl rfl)
theorem dX4_startVisit_154 : decode cX4_startVisit 154 = .ok (.iaload, 1) := dk_46 (dk_at dksX4_startVisit_6 15 rfl rfl)
theorem dX4_startVisit_155 : decode cX4_startVisit 155 = .ok (.istore 5, 2) := dk_54 5 (dk_at dksX4_startVisit_6 16 rfl rfl)
theorem dX4_startVisit_157 : decode cX4_startVisit 157 = .ok (.iload 5, 2) := dk_21 5 (dk_at dksX4_startVisit_6 18 rfl rfl)
theorem dX4_startVisit_159 : decode cX4_startVisit 159 = .ok (.bipush 30, 2) := dk_16 30 (dk_at dksX4_startVisit_6 20 rfl rfl)
theorem dX4_startVisit_161 : decode cX4_startVisit 161 = .ok (.if_icmp .ne 6, 3) := dk_160 0 6 (dk_at dksX4_startVisit_7 0 rfl rfl)
theorem dX4_startVisit_164 : decode cX4_startVisit 164 = .ok (.bipush (-3), 2) := dk_16 253 (dk_at dksX4_startVisit_7 3 rfl rfl)
theorem dX4_startVisit_166 : decode cX4_startVisit 166 = .ok (.ireturn, 1) := dk_172 (dk_at dksX4_startVisit_7 5 rfl rfl)
theorem dX4_startVisit_167 : decode cX4_startVisit 167 = .ok (.aload_n 0, 1) := dk_42 (dk_at dksX4_startVisit_7 6 rfl rfl)
theorem dX4_startVisit_168 : decode cX4_startVisit 168 = .ok (.invokevirtual 249, 3) := dk_182 0 249 (dk_at dksX4_startVisit_7 7 rfl rfl)
theorem dX4_startVisit_171 : decode cX4_startVisit 171 = .ok (.aload_n 0, 1) := dk_42 (dk_at dksX4_startVisit_7 10 rfl rfl)
theorem dX4_startVisit_172 : decode cX4_startVisit 172 = .ok (.getfield 13, 3) := dk_180 0 13 (dk_at dksX4_startVisit_7 11 rfl rfl)
theorem dX4_startVisit_175 : decode cX4_startVisit 175 = .ok (.iconst 1, 1) := dk_4 (dk_at dksX4_startVisit_7 14 rfl rfl)
theorem dX4_startVisit_176 : decode cX4_startVisit 176 = .ok (.iload 5, 2) := dk_21 5 (dk_at dksX4_startVisit_7 15 rfl rfl)
theorem dX4_startVisit_178 : decode cX4_startVisit 178 = .ok (.iadd, 1) := dk_96 (dk_at dksX4_startVisit_7 17 rfl rfl)
theorem dX4_startVisit_179 : decode cX4_startVisit 179 = .ok (.iload_n 1, 1) := dk_27 (dk_at dksX4_startVisit_7 18 rfl rfl)
theorem dX4_startVisit_180 : decode cX4_startVisit 180 = .ok (.iastore, 1) := dk_79 (dk_at dksX4_startVisit_7 19 rfl rfl)
theorem dX4_startVisit_181 : decode cX4_startVisit 181 = .ok (.aload_n 0, 1) := dk_42 (dk_at dksX4_startVisit_7 20 rfl rfl)
theorem dX4_startVisit_182 : decode cX4_startVisit 182 = .ok (.getfield 13, 3) := dk_180 0 13 (dk_at dksX4_startVisit_7 21 rfl rfl)
theorem dX4_startVisit_185 : decode cX4_startVisit 185 = .ok (.bipush 31, 2) := dk_16 31 (dk_at dksX4_startVisit_8 0 rfl rfl)
theorem dX4_startVisit_187 : decode cX4_startVisit 187 = .ok (.iload 5, 2) := dk_21 5 (dk_at dksX4_startVisit_8 2 rfl rfl)
theorem dX4_startVisit_189 : decode cX4_startVisit 189 = .ok (.iadd, 1) := dk_96 (dk_at dksX4_startVisit_8 4 rfl rfl)
theorem dX4_startVisit_190 : decode cX4_startVisit 190 = .ok (.iload_n 2, 1) := dk_28 (dk_at dksX4_startVisit_8 5 rfl rfl)
theorem dX4_startVisit_191 : decode cX4_startVisit 191 = .ok (.iastore, 1) := dk_79 (dk_at dksX4_startVisit_8 6 rfl rfl)
theorem dX4_startVisit_192 : decode cX4_startVisit 192 = .ok (.aload_n 0, 1) := dk_42 (dk_at dksX4_startVisit_8 7 rfl rfl)
theorem dX4_startVisit_193 : decode cX4_startVisit 193 = .ok (.getfield 13, 3) := dk_180 0 13 (dk_at dksX4_startVisit_8 8 rfl rfl)
theorem dX4_startVisit_196 : decode cX4_startVisit 196 = .ok (.bipush 61, 2) := dk_16 61 (dk_at dksX4_startVisit_8 11 rfl rfl)
theorem dX4_startVisit_198 : decode cX4_startVisit 198 = .ok (.iload 5, 2) := dk_21 5 (dk_at dksX4_startVisit_8 13 rfl rfl)
theorem dX4_startVisit_200 : decode cX4_startVisit 200 = .ok (.iadd, 1) := dk_96 (dk_at dksX4_startVisit_8 15 rfl rfl)
theorem dX4_startVisit_201 : decode cX4_startVisit 201 = .ok (.iconst 0, 1) := dk_3 (dk_at dksX4_startVisit_8 16 rfl rfl)
theorem dX4_startVisit_202 : decode cX4_startVisit 202 = .ok (.iastore, 1) := dk_79 (dk_at dksX4_startVisit_8 17 rfl rfl)
theorem dX4_startVisit_203 : decode cX4_startVisit 203 = .ok (.aload_n 0, 1) := dk_42 (dk_at dksX4_startVisit_8 18 rfl rfl)
theorem dX4_startVisit_204 : decode cX4_startVisit 204 = .ok (.getfield 13, 3) := dk_180 0 13 (dk_at dksX4_startVisit_8 19 rfl rfl)
theorem dX4_startVisit_207 : decode cX4_startVisit 207 = .ok (.bipush 91, 2) := dk_16 91 (dk_at dksX4_startVisit_8 22 rfl rfl)
theorem dX4_startVisit_209 : decode cX4_startVisit 209 = .ok (.iload 5, 2) := dk_21 5 (dk_at dksX4_startVisit_9 0 rfl rfl)
theorem dX4_startVisit_211 : decode cX4_startVisit 211 = .ok (.iadd, 1) := dk_96 (dk_at dksX4_startVisit_9 2 rfl rfl)
theorem dX4_startVisit_212 : decode cX4_startVisit 212 = .ok (.iconst 0, 1) := dk_3 (dk_at dksX4_startVisit_9 3 rfl rfl)
theorem dX4_startVisit_213 : decode cX4_startVisit 213 = .ok (.iastore, 1) := dk_79 (dk_at dksX4_startVisit_9 4 rfl rfl)
theorem dX4_startVisit_214 : decode cX4_startVisit 214 = .ok (.aload_n 0, 1) := dk_42 (dk_at dksX4_startVisit_9 5 rfl rfl)
theorem dX4_startVisit_215 : decode cX4_startVisit 215 = .ok (.getfield 13, 3) := dk_180 0 13 (dk_at dksX4_startVisit_9 6 rfl rfl)
theorem dX4_startVisit_218 : decode cX4_startVisit 218 = .ok (.bipush 121, 2) := dk_16 121 (dk_at dksX4_startVisit_9 9 rfl rfl)
theorem dX4_startVisit_220 : decode cX4_startVisit 220 = .ok (.iload 5, 2) := dk_21 5 (dk_at dksX4_startVisit_9 11 rfl rfl)
theorem dX4_startVisit_222 : decode cX4_startVisit 222 = .ok (.iadd, 1) := dk_96 (dk_at dksX4_startVisit_9 13 rfl rfl)
theorem dX4_startVisit_223 : decode cX4_startVisit 223 = .ok (.iload 4, 2) := dk_21 4 (dk_at dksX4_startVisit_9 14 rfl rfl)
theorem dX4_startVisit_225 : decode cX4_startVisit 225 = .ok (.iastore, 1) := dk_79 (dk_at dksX4_startVisit_9 16 rfl rfl)
theorem dX4_startVisit_226 : decode cX4_startVisit 226 = .ok (.aload_n 0, 1) := dk_42 (dk_at dksX4_startVisit_9 17 rfl rfl)
theorem dX4_startVisit_227 : decode cX4_startVisit 227 = .ok (.getfield 13, 3) := dk_180 0 13 (dk_at dksX4_startVisit_9 18 rfl rfl)
theorem dX4_startVisit_230 : decode cX4_startVisit 230 = .ok (.sipush 151, 3) := dk_17 0 151 (dk_at dksX4_startVisit_9 21 rfl rfl)
theorem dX4_startVisit_233 : decode cX4_startVisit 233 = .ok (.iload 5, 2) := dk_21 5 (dk_at dksX4_startVisit_10 0 rfl rfl)
theorem dX4_startVisit_235 : decode cX4_startVisit 235 = .ok (.iadd, 1) := dk_96 (dk_at dksX4_startVisit_10 2 rfl rfl)
theorem dX4_startVisit_236 : decode cX4_startVisit 236 = .ok (.iconst 0, 1) := dk_3 (dk_at dksX4_startVisit_10 3 rfl rfl)
theorem dX4_startVisit_237 : decode cX4_startVisit 237 = .ok (.iastore, 1) := dk_79 (dk_at dksX4_startVisit_10 4 rfl rfl)
theorem dX4_startVisit_238 : decode cX4_startVisit 238 = .ok (.aload_n 0, 1) := dk_42 (dk_at dksX4_startVisit_10 5 rfl rfl)
theorem dX4_startVisit_239 : decode cX4_startVisit 239 = .ok (.getfield 13, 3) := dk_180 0 13 (dk_at dksX4_startVisit_10 6 rfl rfl)
theorem dX4_startVisit_242 : decode cX4_startVisit 242 = .ok (.iconst 0, 1) := dk_3 (dk_at dksX4_startVisit_10 9 rfl rfl)
theorem dX4_startVisit_243 : decode cX4_startVisit 243 = .ok (.dup2, 1) := dk_92 (dk_at dksX4_startVisit_10 10 rfl rfl)
theorem dX4_startVisit_244 : decode cX4_startVisit 244 = .ok (.iaload, 1) := dk_46 (dk_at dksX4_startVisit_10 11 rfl rfl)
theorem dX4_startVisit_245 : decode cX4_startVisit 245 = .ok (.iconst 1, 1) := dk_4 (dk_at dksX4_startVisit_10 12 rfl rfl)
theorem dX4_startVisit_246 : decode cX4_startVisit 246 = .ok (.iadd, 1) := dk_96 (dk_at dksX4_startVisit_10 13 rfl rfl)
theorem dX4_startVisit_247 : decode cX4_startVisit 247 = .ok (.iastore, 1) := dk_79 (dk_at dksX4_startVisit_10 14 rfl rfl)
theorem dX4_startVisit_248 : decode cX4_startVisit 248 = .ok (.iload 5, 2) := dk_21 5 (dk_at dksX4_startVisit_10 15 rfl rfl)
theorem dX4_startVisit_250 : decode cX4_startVisit 250 = .ok (.ireturn, 1) := dk_172 (dk_at dksX4_startVisit_10 17 rfl rfl)

set_option maxRecDepth 100000
/-! ScaleInspection$Hypotheses -/
abbrev cX14_init : ByteArray := prog_9_method_1_code
def yX14_init : MethodName := ⟨RX14, "<init>", "(IIZI)V"⟩
def dkwX14_init_1 : List UInt8 := [181, 0, 20, 177]
abbrev dktX14_init_1 : List UInt8 := dkwX14_init_1 ++ []
def dkwX14_init_0 : List UInt8 := [42, 183, 0, 1, 42, 27, 181, 0, 7, 42, 28, 181, 0, 13, 42, 29, 181, 0, 16, 42, 21, 4]
abbrev dktX14_init_0 : List UInt8 := dkwX14_init_0 ++ dktX14_init_1
theorem dksX14_init_0 : cX14_init.data.toList.drop 0 = dktX14_init_0 := by decide +kernel
theorem dksX14_init_1 : cX14_init.data.toList.drop 22 = dktX14_init_1 := dk_seg dksX14_init_0 22 rfl rfl
theorem dX14_init_0 : decode cX14_init 0 = .ok (.aload_n 0, 1) := dk_42 (dk_at dksX14_init_0 0 rfl rfl)
theorem dX14_init_1 : decode cX14_init 1 = .ok (.invokespecial 1, 3) := dk_183 0 1 (dk_at dksX14_init_0 1 rfl rfl)
theorem dX14_init_4 : decode cX14_init 4 = .ok (.aload_n 0, 1) := dk_42 (dk_at dksX14_init_0 4 rfl rfl)
theorem dX14_init_5 : decode cX14_init 5 = .ok (.iload_n 1, 1) := dk_27 (dk_at dksX14_init_0 5 rfl rfl)
theorem dX14_init_6 : decode cX14_init 6 = .ok (.putfield 7, 3) := dk_181 0 7 (dk_at dksX14_init_0 6 rfl rfl)
theorem dX14_init_9 : decode cX14_init 9 = .ok (.aload_n 0, 1) := dk_42 (dk_at dksX14_init_0 9 rfl rfl)
theorem dX14_init_10 : decode cX14_init 10 = .ok (.iload_n 2, 1) := dk_28 (dk_at dksX14_init_0 10 rfl rfl)
theorem dX14_init_11 : decode cX14_init 11 = .ok (.putfield 13, 3) := dk_181 0 13 (dk_at dksX14_init_0 11 rfl rfl)
theorem dX14_init_14 : decode cX14_init 14 = .ok (.aload_n 0, 1) := dk_42 (dk_at dksX14_init_0 14 rfl rfl)
theorem dX14_init_15 : decode cX14_init 15 = .ok (.iload_n 3, 1) := dk_29 (dk_at dksX14_init_0 15 rfl rfl)
theorem dX14_init_16 : decode cX14_init 16 = .ok (.putfield 16, 3) := dk_181 0 16 (dk_at dksX14_init_0 16 rfl rfl)
theorem dX14_init_19 : decode cX14_init 19 = .ok (.aload_n 0, 1) := dk_42 (dk_at dksX14_init_0 19 rfl rfl)
theorem dX14_init_20 : decode cX14_init 20 = .ok (.iload 4, 2) := dk_21 4 (dk_at dksX14_init_0 20 rfl rfl)
theorem dX14_init_22 : decode cX14_init 22 = .ok (.putfield 20, 3) := dk_181 0 20 (dk_at dksX14_init_1 0 rfl rfl)
theorem dX14_init_25 : decode cX14_init 25 = .ok (.return_, 1) := dk_177 (dk_at dksX14_init_1 3 rfl rfl)
abbrev cX14_after : ByteArray := prog_9_method_3_code
def yX14_after : MethodName := ⟨RX14, "after", "(III)LScaleInspection$Hypotheses;"⟩
def dkwX14_after_5 : List UInt8 := [180, 0, 13, 27, 126, 3, 42, 180, 0, 20, 4, 96, 183, 0, 29, 176]
abbrev dktX14_after_5 : List UInt8 := dkwX14_after_5 ++ []
def dkwX14_after_4 : List UInt8 := [126, 3, 42, 180, 0, 20, 4, 96, 183, 0, 29, 176, 187, 0, 8, 89, 42, 180, 0, 7, 28, 126, 42]
abbrev dktX14_after_4 : List UInt8 := dkwX14_after_4 ++ dktX14_after_5
def dkwX14_after_3 : List UInt8 := [180, 0, 20, 4, 96, 183, 0, 29, 176, 187, 0, 8, 89, 42, 180, 0, 7, 27, 126, 42, 180, 0, 13, 28]
abbrev dktX14_after_3 : List UInt8 := dkwX14_after_3 ++ dktX14_after_4
def dkwX14_after_2 : List UInt8 := [187, 0, 8, 89, 42, 180, 0, 7, 21, 4, 126, 42, 180, 0, 13, 21, 4, 126, 42, 180, 0, 16, 42]
abbrev dktX14_after_2 : List UInt8 := dkwX14_after_2 ++ dktX14_after_3
def dkwX14_after_1 : List UInt8 := [171, 0, 0, 0, 0, 0, 0, 87, 0, 0, 0, 2, 0, 0, 0, 0, 0, 0, 0, 28, 0, 0, 0, 1, 0, 0, 0, 60]
abbrev dktX14_after_1 : List UInt8 := dkwX14_after_1 ++ dktX14_after_2
def dkwX14_after_0 : List UInt8 := [27, 28, 128, 2, 130, 54, 4, 29]
abbrev dktX14_after_0 : List UInt8 := dkwX14_after_0 ++ dktX14_after_1
theorem dksX14_after_0 : cX14_after.data.toList.drop 0 = dktX14_after_0 := by decide +kernel
theorem dksX14_after_1 : cX14_after.data.toList.drop 8 = dktX14_after_1 := dk_seg dksX14_after_0 8 rfl rfl
theorem dksX14_after_2 : cX14_after.data.toList.drop 36 = dktX14_after_2 := dk_seg dksX14_after_1 28 rfl rfl
theorem dksX14_after_3 : cX14_after.data.toList.drop 59 = dktX14_after_3 := dk_seg dksX14_after_2 23 rfl rfl
theorem dksX14_after_4 : cX14_after.data.toList.drop 83 = dktX14_after_4 := dk_seg dksX14_after_3 24 rfl rfl
theorem dksX14_after_5 : cX14_after.data.toList.drop 106 = dktX14_after_5 := dk_seg dksX14_after_4 23 rfl rfl
theorem dX14_after_0 : decode cX14_after 0 = .ok (.iload_n 1, 1) := dk_27 (dk_at dksX14_after_0 0 rfl rfl)
theorem dX14_after_1 : decode cX14_after 1 = .ok (.iload_n 2, 1) := dk_28 (dk_at dksX14_after_0 1 rfl rfl)
theorem dX14_after_2 : decode cX14_after 2 = .ok (.ior, 1) := dk_128 (dk_at dksX14_after_0 2 rfl rfl)
theorem dX14_after_3 : decode cX14_after 3 = .ok (.iconst (-1), 1) := dk_2 (dk_at dksX14_after_0 3 rfl rfl)
theorem dX14_after_4 : decode cX14_after 4 = .ok (.ixor, 1) := dk_130 (dk_at dksX14_after_0 4 rfl rfl)
theorem dX14_after_5 : decode cX14_after 5 = .ok (.istore 4, 2) := dk_54 4 (dk_at dksX14_after_0 5 rfl rfl)
theorem dX14_after_7 : decode cX14_after 7 = .ok (.iload_n 3, 1) := dk_29 (dk_at dksX14_after_0 7 rfl rfl)
theorem dX14_after_8 : decode cX14_after 8 = .ok (.lookupswitch 87 #[(0, 28), (1, 60)], 28) := by decide +kernel
theorem dX14_after_36 : decode cX14_after 36 = .ok (.new 8, 3) := dk_187 0 8 (dk_at dksX14_after_2 0 rfl rfl)
theorem dX14_after_39 : decode cX14_after 39 = .ok (.dup, 1) := dk_89 (dk_at dksX14_after_2 3 rfl rfl)
theorem dX14_after_40 : decode cX14_after 40 = .ok (.aload_n 0, 1) := dk_42 (dk_at dksX14_after_2 4 rfl rfl)
theorem dX14_after_41 : decode cX14_after 41 = .ok (.getfield 7, 3) := dk_180 0 7 (dk_at dksX14_after_2 5 rfl rfl)
theorem dX14_after_44 : decode cX14_after 44 = .ok (.iload 4, 2) := dk_21 4 (dk_at dksX14_after_2 8 rfl rfl)
theorem dX14_after_46 : decode cX14_after 46 = .ok (.iand, 1) := dk_126 (dk_at dksX14_after_2 10 rfl rfl)
theorem dX14_after_47 : decode cX14_after 47 = .ok (.aload_n 0, 1) := dk_42 (dk_at dksX14_after_2 11 rfl rfl)
theorem dX14_after_48 : decode cX14_after 48 = .ok (.getfield 13, 3) := dk_180 0 13 (dk_at dksX14_after_2 12 rfl rfl)
theorem dX14_after_51 : decode cX14_after 51 = .ok (.iload 4, 2) := dk_21 4 (dk_at dksX14_after_2 15 rfl rfl)
theorem dX14_after_53 : decode cX14_after 53 = .ok (.iand, 1) := dk_126 (dk_at dksX14_after_2 17 rfl rfl)
theorem dX14_after_54 : decode cX14_after 54 = .ok (.aload_n 0, 1) := dk_42 (dk_at dksX14_after_2 18 rfl rfl)
theorem dX14_after_55 : decode cX14_after 55 = .ok (.getfield 16, 3) := dk_180 0 16 (dk_at dksX14_after_2 19 rfl rfl)
theorem dX14_after_58 : decode cX14_after 58 = .ok (.aload_n 0, 1) := dk_42 (dk_at dksX14_after_2 22 rfl rfl)
theorem dX14_after_59 : decode cX14_after 59 = .ok (.getfield 20, 3) := dk_180 0 20 (dk_at dksX14_after_3 0 rfl rfl)
theorem dX14_after_62 : decode cX14_after 62 = .ok (.iconst 1, 1) := dk_4 (dk_at dksX14_after_3 3 rfl rfl)
theorem dX14_after_63 : decode cX14_after 63 = .ok (.iadd, 1) := dk_96 (dk_at dksX14_after_3 4 rfl rfl)
theorem dX14_after_64 : decode cX14_after 64 = .ok (.invokespecial 29, 3) := dk_183 0 29 (dk_at dksX14_after_3 5 rfl rfl)
theorem dX14_after_67 : decode cX14_after 67 = .ok (.areturn, 1) := dk_176 (dk_at dksX14_after_3 8 rfl rfl)
theorem dX14_after_68 : decode cX14_after 68 = .ok (.new 8, 3) := dk_187 0 8 (dk_at dksX14_after_3 9 rfl rfl)
theorem dX14_after_71 : decode cX14_after 71 = .ok (.dup, 1) := dk_89 (dk_at dksX14_after_3 12 rfl rfl)
theorem dX14_after_72 : decode cX14_after 72 = .ok (.aload_n 0, 1) := dk_42 (dk_at dksX14_after_3 13 rfl rfl)
theorem dX14_after_73 : decode cX14_after 73 = .ok (.getfield 7, 3) := dk_180 0 7 (dk_at dksX14_after_3 14 rfl rfl)
theorem dX14_after_76 : decode cX14_after 76 = .ok (.iload_n 1, 1) := dk_27 (dk_at dksX14_after_3 17 rfl rfl)
theorem dX14_after_77 : decode cX14_after 77 = .ok (.iand, 1) := dk_126 (dk_at dksX14_after_3 18 rfl rfl)
theorem dX14_after_78 : decode cX14_after 78 = .ok (.aload_n 0, 1) := dk_42 (dk_at dksX14_after_3 19 rfl rfl)
theorem dX14_after_79 : decode cX14_after 79 = .ok (.getfield 13, 3) := dk_180 0 13 (dk_at dksX14_after_3 20 rfl rfl)
theorem dX14_after_82 : decode cX14_after 82 = .ok (.iload_n 2, 1) := dk_28 (dk_at dksX14_after_3 23 rfl rfl)
theorem dX14_after_83 : decode cX14_after 83 = .ok (.iand, 1) := dk_126 (dk_at dksX14_after_4 0 rfl rfl)
theorem dX14_after_84 : decode cX14_after 84 = .ok (.iconst 0, 1) := dk_3 (dk_at dksX14_after_4 1 rfl rfl)
theorem dX14_after_85 : decode cX14_after 85 = .ok (.aload_n 0, 1) := dk_42 (dk_at dksX14_after_4 2 rfl rfl)
theorem dX14_after_86 : decode cX14_after 86 = .ok (.getfield 20, 3) := dk_180 0 20 (dk_at dksX14_after_4 3 rfl rfl)
theorem dX14_after_89 : decode cX14_after 89 = .ok (.iconst 1, 1) := dk_4 (dk_at dksX14_after_4 6 rfl rfl)
theorem dX14_after_90 : decode cX14_after 90 = .ok (.iadd, 1) := dk_96 (dk_at dksX14_after_4 7 rfl rfl)
theorem dX14_after_91 : decode cX14_after 91 = .ok (.invokespecial 29, 3) := dk_183 0 29 (dk_at dksX14_after_4 8 rfl rfl)
theorem dX14_after_94 : decode cX14_after 94 = .ok (.areturn, 1) := dk_176 (dk_at dksX14_after_4 11 rfl rfl)
theorem dX14_after_95 : decode cX14_after 95 = .ok (.new 8, 3) := dk_187 0 8 (dk_at dksX14_after_4 12 rfl rfl)
theorem dX14_after_98 : decode cX14_after 98 = .ok (.dup, 1) := dk_89 (dk_at dksX14_after_4 15 rfl rfl)
theorem dX14_after_99 : decode cX14_after 99 = .ok (.aload_n 0, 1) := dk_42 (dk_at dksX14_after_4 16 rfl rfl)
theorem dX14_after_100 : decode cX14_after 100 = .ok (.getfield 7, 3) := dk_180 0 7 (dk_at dksX14_after_4 17 rfl rfl)
theorem dX14_after_103 : decode cX14_after 103 = .ok (.iload_n 2, 1) := dk_28 (dk_at dksX14_after_4 20 rfl rfl)
theorem dX14_after_104 : decode cX14_after 104 = .ok (.iand, 1) := dk_126 (dk_at dksX14_after_4 21 rfl rfl)
theorem dX14_after_105 : decode cX14_after 105 = .ok (.aload_n 0, 1) := dk_42 (dk_at dksX14_after_4 22 rfl rfl)
theorem dX14_after_106 : decode cX14_after 106 = .ok (.getfield 13, 3) := dk_180 0 13 (dk_at dksX14_after_5 0 rfl rfl)
theorem dX14_after_109 : decode cX14_after 109 = .ok (.iload_n 1, 1) := dk_27 (dk_at dksX14_after_5 3 rfl rfl)
theorem dX14_after_110 : decode cX14_after 110 = .ok (.iand, 1) := dk_126 (dk_at dksX14_after_5 4 rfl rfl)
theorem dX14_after_111 : decode cX14_after 111 = .ok (.iconst 0, 1) := dk_3 (dk_at dksX14_after_5 5 rfl rfl)
theorem dX14_after_112 : decode cX14_after 112 = .ok (.aload_n 0, 1) := dk_42 (dk_at dksX14_after_5 6 rfl rfl)
theorem dX14_after_113 : decode cX14_after 113 = .ok (.getfield 20, 3) := dk_180 0 20 (dk_at dksX14_after_5 7 rfl rfl)
theorem dX14_after_116 : decode cX14_after 116 = .ok (.iconst 1, 1) := dk_4 (dk_at dksX14_after_5 10 rfl rfl)
theorem dX14_after_117 : decode cX14_after 117 = .ok (.iadd, 1) := dk_96 (dk_at dksX14_after_5 11 rfl rfl)
theorem dX14_after_118 : decode cX14_after 118 = .ok (.invokespecial 29, 3) := dk_183 0 29 (dk_at dksX14_after_5 12 rfl rfl)
theorem dX14_after_121 : decode cX14_after 121 = .ok (.areturn, 1) := dk_176 (dk_at dksX14_after_5 15 rfl rfl)
abbrev cX14_count : ByteArray := prog_9_method_2_code
def yX14_count : MethodName := ⟨RX14, "count", "()I"⟩
def dkwX14_count_1 : List UInt8 := [167, 0, 4, 3, 96, 172]
abbrev dktX14_count_1 : List UInt8 := dkwX14_count_1 ++ []
def dkwX14_count_0 : List UInt8 := [42, 180, 0, 7, 184, 0, 23, 42, 180, 0, 13, 184, 0, 23, 96, 42, 180, 0, 16, 153, 0, 7, 4]
abbrev dktX14_count_0 : List UInt8 := dkwX14_count_0 ++ dktX14_count_1
theorem dksX14_count_0 : cX14_count.data.toList.drop 0 = dktX14_count_0 := by decide +kernel
theorem dksX14_count_1 : cX14_count.data.toList.drop 23 = dktX14_count_1 := dk_seg dksX14_count_0 23 rfl rfl
theorem dX14_count_0 : decode cX14_count 0 = .ok (.aload_n 0, 1) := dk_42 (dk_at dksX14_count_0 0 rfl rfl)
theorem dX14_count_1 : decode cX14_count 1 = .ok (.getfield 7, 3) := dk_180 0 7 (dk_at dksX14_count_0 1 rfl rfl)
theorem dX14_count_4 : decode cX14_count 4 = .ok (.invokestatic 23, 3) := dk_184 0 23 (dk_at dksX14_count_0 4 rfl rfl)
theorem dX14_count_7 : decode cX14_count 7 = .ok (.aload_n 0, 1) := dk_42 (dk_at dksX14_count_0 7 rfl rfl)
theorem dX14_count_8 : decode cX14_count 8 = .ok (.getfield 13, 3) := dk_180 0 13 (dk_at dksX14_count_0 8 rfl rfl)
theorem dX14_count_11 : decode cX14_count 11 = .ok (.invokestatic 23, 3) := dk_184 0 23 (dk_at dksX14_count_0 11 rfl rfl)
theorem dX14_count_14 : decode cX14_count 14 = .ok (.iadd, 1) := dk_96 (dk_at dksX14_count_0 14 rfl rfl)
theorem dX14_count_15 : decode cX14_count 15 = .ok (.aload_n 0, 1) := dk_42 (dk_at dksX14_count_0 15 rfl rfl)
theorem dX14_count_16 : decode cX14_count 16 = .ok (.getfield 16, 3) := dk_180 0 16 (dk_at dksX14_count_0 16 rfl rfl)
theorem dX14_count_19 : decode cX14_count 19 = .ok (.ifCond .eq 7, 3) := dk_153 0 7 (dk_at dksX14_count_0 19 rfl rfl)
theorem dX14_count_22 : decode cX14_count 22 = .ok (.iconst 1, 1) := dk_4 (dk_at dksX14_count_0 22 rfl rfl)
theorem dX14_count_23 : decode cX14_count 23 = .ok (.goto 4, 3) := dk_167 0 4 (dk_at dksX14_count_1 0 rfl rfl)
theorem dX14_count_26 : decode cX14_count 26 = .ok (.iconst 0, 1) := dk_3 (dk_at dksX14_count_1 3 rfl rfl)
theorem dX14_count_27 : decode cX14_count 27 = .ok (.iadd, 1) := dk_96 (dk_at dksX14_count_1 4 rfl rfl)
theorem dX14_count_28 : decode cX14_count 28 = .ok (.ireturn, 1) := dk_172 (dk_at dksX14_count_1 5 rfl rfl)
theorem q119 : (Jvm.Cond.initialized "ScaleInspection$Hypotheses") ∈ lw_all := lw_g (lw_at lw_m1 34 rfl) rfl
theorem q868 : (Jvm.Cond.selects "ScaleInspection$Hypotheses" ({ cls := "java/lang/Object", name := "getClass", desc := "()Ljava/lang/Class;" } : Jvm.MethodName) ({ cls := "java/lang/Object", name := "getClass", desc := "()Ljava/lang/Class;" } : Jvm.MethodName)) ∈ lw_all := lw_g (lw_at lw_m4 63 rfl) rfl
theorem q957 : (Jvm.Cond.instantiable "ScaleInspection$Hypotheses" (4 : Nat)) ∈ lw_all := lw_g (lw_at lw_m4 152 rfl) rfl
theorem q959 : (Jvm.Cond.instanceMethod ({ cls := "ScaleInspection$Hypotheses", name := "<init>", desc := "(IIZI)V" } : Jvm.MethodName)) ∈ lw_all := lw_g (lw_at lw_m4 154 rfl) rfl
theorem q960 : (Jvm.Cond.code ({ cls := "ScaleInspection$Hypotheses", name := "<init>", desc := "(IIZI)V" } : Jvm.MethodName) prog_9_method_1_code (5 : Nat) (Option.none : Option Jvm.ClassFile.FieldType)) ∈ lw_all := lw_g (lw_at lw_m4 155 rfl) rfl
theorem q961 : (Jvm.Cond.methodLink "ScaleInspection$Hypotheses" (1 : Nat) ({ cls := "java/lang/Object", name := "<init>", desc := "()V" } : Jvm.MethodName)) ∈ lw_all := lw_g (lw_at lw_m4 156 rfl) rfl
theorem q962 : (Jvm.Cond.fieldLink "ScaleInspection$Hypotheses" (7 : Nat) "ScaleInspection$Hypotheses" "heavy" "I") ∈ lw_all := lw_g (lw_at lw_m4 157 rfl) rfl
theorem q965 : (Jvm.Cond.fieldLink "ScaleInspection$Hypotheses" (13 : Nat) "ScaleInspection$Hypotheses" "light" "I") ∈ lw_all := lw_g (lw_at lw_m4 160 rfl) rfl
theorem q968 : (Jvm.Cond.fieldLink "ScaleInspection$Hypotheses" (20 : Nat) "ScaleInspection$Hypotheses" "weighings" "I") ∈ lw_all := lw_g (lw_at lw_m4 163 rfl) rfl
theorem q970 : (Jvm.Cond.fieldLink "ScaleInspection$Hypotheses" (16 : Nat) "ScaleInspection$Hypotheses" "genuine" "Z") ∈ lw_all := lw_g (lw_at lw_m4 165 rfl) rfl
theorem q973 : (Jvm.Cond.laysFinal "ScaleInspection$Hypotheses" "ScaleInspection$Hypotheses" "heavy" "I") ∈ lw_all := lw_g (lw_at lw_m4 168 rfl) rfl
theorem q974 : (Jvm.Cond.soleField "ScaleInspection$Hypotheses" "heavy") ∈ lw_all := lw_g (lw_at lw_m4 169 rfl) rfl
theorem q975 : (Jvm.Cond.laysFinal "ScaleInspection$Hypotheses" "ScaleInspection$Hypotheses" "light" "I") ∈ lw_all := lw_g (lw_at lw_m4 170 rfl) rfl
theorem q976 : (Jvm.Cond.soleField "ScaleInspection$Hypotheses" "light") ∈ lw_all := lw_g (lw_at lw_m4 171 rfl) rfl
theorem q977 : (Jvm.Cond.laysFinal "ScaleInspection$Hypotheses" "ScaleInspection$Hypotheses" "weighings" "I") ∈ lw_all := lw_g (lw_at lw_m4 172 rfl) rfl
theorem q978 : (Jvm.Cond.soleField "ScaleInspection$Hypotheses" "weighings") ∈ lw_all := lw_g (lw_at lw_m4 173 rfl) rfl
theorem q979 : (Jvm.Cond.laysFinal "ScaleInspection$Hypotheses" "ScaleInspection$Hypotheses" "genuine" "Z") ∈ lw_all := lw_g (lw_at lw_m4 174 rfl) rfl
theorem q980 : (Jvm.Cond.soleField "ScaleInspection$Hypotheses" "genuine") ∈ lw_all := lw_g (lw_at lw_m4 175 rfl) rfl
theorem q981 : (Jvm.Cond.superclass "ScaleInspection$Hypotheses" "java/lang/Object") ∈ lw_all := lw_g (lw_at lw_m4 176 rfl) rfl
theorem q1332 : (Jvm.Cond.instanceMethod ({ cls := "ScaleInspection$Hypotheses", name := "after", desc := "(III)LScaleInspection$Hypotheses;" } : Jvm.MethodName)) ∈ lw_all := lw_g (lw_at lw_m6 47 rfl) rfl
theorem q1333 : (Jvm.Cond.selects "ScaleInspection$Hypotheses" ({ cls := "ScaleInspection$Hypotheses", name := "after", desc := "(III)LScaleInspection$Hypotheses;" } : Jvm.MethodName) ({ cls := "ScaleInspection$Hypotheses", name := "after", desc := "(III)LScaleInspection$Hypotheses;" } : Jvm.MethodName)) ∈ lw_all := lw_g (lw_at lw_m6 48 rfl) rfl
theorem q1334 : (Jvm.Cond.code ({ cls := "ScaleInspection$Hypotheses", name := "after", desc := "(III)LScaleInspection$Hypotheses;" } : Jvm.MethodName) prog_9_method_3_code (5 : Nat) (Option.some (Jvm.ClassFile.FieldType.object "ScaleInspection$Hypotheses"))) ∈ lw_all := lw_g (lw_at lw_m6 49 rfl) rfl
theorem q1335 : (Jvm.Cond.classLink "ScaleInspection$Hypotheses" (8 : Nat) "ScaleInspection$Hypotheses") ∈ lw_all := lw_g (lw_at lw_m6 50 rfl) rfl
theorem q1336 : (Jvm.Cond.methodLink "ScaleInspection$Hypotheses" (29 : Nat) ({ cls := "ScaleInspection$Hypotheses", name := "<init>", desc := "(IIZI)V" } : Jvm.MethodName)) ∈ lw_all := lw_g (lw_at lw_m6 51 rfl) rfl
theorem q1338 : (Jvm.Cond.instanceMethod ({ cls := "ScaleInspection$Hypotheses", name := "count", desc := "()I" } : Jvm.MethodName)) ∈ lw_all := lw_g (lw_at lw_m6 53 rfl) rfl
theorem q1339 : (Jvm.Cond.selects "ScaleInspection$Hypotheses" ({ cls := "ScaleInspection$Hypotheses", name := "count", desc := "()I" } : Jvm.MethodName) ({ cls := "ScaleInspection$Hypotheses", name := "count", desc := "()I" } : Jvm.MethodName)) ∈ lw_all := lw_g (lw_at lw_m6 54 rfl) rfl
theorem q1340 : (Jvm.Cond.code ({ cls := "ScaleInspection$Hypotheses", name := "count", desc := "()I" } : Jvm.MethodName) prog_9_method_2_code (1 : Nat) (Option.some Jvm.ClassFile.FieldType.int)) ∈ lw_all := lw_g (lw_at lw_m6 55 rfl) rfl
theorem q1341 : (Jvm.Cond.methodLink "ScaleInspection$Hypotheses" (23 : Nat) ({ cls := "java/lang/Integer", name := "bitCount", desc := "(I)I" } : Jvm.MethodName)) ∈ lw_all := lw_g (lw_at lw_m6 56 rfl) rfl
theorem q2222 : (Jvm.Cond.castable "ScaleInspection$Hypotheses" "java/lang/Object") ∈ lw_tbl := lw_at lw_m9 217 rfl


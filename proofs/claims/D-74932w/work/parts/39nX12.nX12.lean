set_option maxRecDepth 100000
/-! ScaleInspection$AccuracyClass -/
abbrev cX12_values : ByteArray := prog_2_method_1_code
def yX12_values : MethodName := ⟨RX12, "values", "()[LScaleInspection$AccuracyClass;"⟩
def dkwX12_values_0 : List UInt8 := [178, 0, 13, 182, 0, 17, 192, 0, 18, 176]
abbrev dktX12_values_0 : List UInt8 := dkwX12_values_0 ++ []
theorem dksX12_values_0 : cX12_values.data.toList.drop 0 = dktX12_values_0 := by decide +kernel
theorem dX12_values_0 : decode cX12_values 0 = .ok (.getstatic 13, 3) := dk_178 0 13 (dk_at dksX12_values_0 0 rfl rfl)
theorem dX12_values_3 : decode cX12_values 3 = .ok (.invokevirtual 17, 3) := dk_182 0 17 (dk_at dksX12_values_0 3 rfl rfl)
theorem dX12_values_6 : decode cX12_values 6 = .ok (.checkcast 18, 3) := dk_192 0 18 (dk_at dksX12_values_0 6 rfl rfl)
theorem dX12_values_9 : decode cX12_values 9 = .ok (.areturn, 1) := dk_176 (dk_at dksX12_values_0 9 rfl rfl)
abbrev cX12_tolerance : ByteArray := prog_2_method_6_code
def yX12_tolerance : MethodName := ⟨RX12, "tolerance", "(II)I"⟩
def dkwX12_tolerance_1 : List UInt8 := [182, 0, 36, 133, 27, 133, 105, 148, 157, 0, 7, 27, 167, 0, 10, 6, 27, 104, 4, 96, 5, 108, 172]
abbrev dktX12_tolerance_1 : List UInt8 := dkwX12_tolerance_1 ++ []
def dkwX12_tolerance_0 : List UInt8 := [28, 133, 42, 182, 0, 32, 133, 27, 133, 105, 148, 157, 0, 9, 27, 4, 96, 5, 108, 172, 28, 133, 42]
abbrev dktX12_tolerance_0 : List UInt8 := dkwX12_tolerance_0 ++ dktX12_tolerance_1
theorem dksX12_tolerance_0 : cX12_tolerance.data.toList.drop 0 = dktX12_tolerance_0 := by decide +kernel
theorem dksX12_tolerance_1 : cX12_tolerance.data.toList.drop 23 = dktX12_tolerance_1 := dk_seg dksX12_tolerance_0 23 rfl rfl
theorem dX12_tolerance_0 : decode cX12_tolerance 0 = .ok (.iload_n 2, 1) := dk_28 (dk_at dksX12_tolerance_0 0 rfl rfl)
theorem dX12_tolerance_1 : decode cX12_tolerance 1 = .ok (.i2l, 1) := dk_133 (dk_at dksX12_tolerance_0 1 rfl rfl)
theorem dX12_tolerance_2 : decode cX12_tolerance 2 = .ok (.aload_n 0, 1) := dk_42 (dk_at dksX12_tolerance_0 2 rfl rfl)
theorem dX12_tolerance_3 : decode cX12_tolerance 3 = .ok (.invokevirtual 32, 3) := dk_182 0 32 (dk_at dksX12_tolerance_0 3 rfl rfl)
theorem dX12_tolerance_6 : decode cX12_tolerance 6 = .ok (.i2l, 1) := dk_133 (dk_at dksX12_tolerance_0 6 rfl rfl)
theorem dX12_tolerance_7 : decode cX12_tolerance 7 = .ok (.iload_n 1, 1) := dk_27 (dk_at dksX12_tolerance_0 7 rfl rfl)
theorem dX12_tolerance_8 : decode cX12_tolerance 8 = .ok (.i2l, 1) := dk_133 (dk_at dksX12_tolerance_0 8 rfl rfl)
theorem dX12_tolerance_9 : decode cX12_tolerance 9 = .ok (.lmul, 1) := dk_105 (dk_at dksX12_tolerance_0 9 rfl rfl)
theorem dX12_tolerance_10 : decode cX12_tolerance 10 = .ok (.lcmp, 1) := dk_148 (dk_at dksX12_tolerance_0 10 rfl rfl)
theorem dX12_tolerance_11 : decode cX12_tolerance 11 = .ok (.ifCond .gt 9, 3) := dk_157 0 9 (dk_at dksX12_tolerance_0 11 rfl rfl)
theorem dX12_tolerance_14 : decode cX12_tolerance 14 = .ok (.iload_n 1, 1) := dk_27 (dk_at dksX12_tolerance_0 14 rfl rfl)
theorem dX12_tolerance_15 : decode cX12_tolerance 15 = .ok (.iconst 1, 1) := dk_4 (dk_at dksX12_tolerance_0 15 rfl rfl)
theorem dX12_tolerance_16 : decode cX12_tolerance 16 = .ok (.iadd, 1) := dk_96 (dk_at dksX12_tolerance_0 16 rfl rfl)
theorem dX12_tolerance_17 : decode cX12_tolerance 17 = .ok (.iconst 2, 1) := dk_5 (dk_at dksX12_tolerance_0 17 rfl rfl)
theorem dX12_tolerance_18 : decode cX12_tolerance 18 = .ok (.idiv, 1) := dk_108 (dk_at dksX12_tolerance_0 18 rfl rfl)
theorem dX12_tolerance_19 : decode cX12_tolerance 19 = .ok (.ireturn, 1) := dk_172 (dk_at dksX12_tolerance_0 19 rfl rfl)
theorem dX12_tolerance_20 : decode cX12_tolerance 20 = .ok (.iload_n 2, 1) := dk_28 (dk_at dksX12_tolerance_0 20 rfl rfl)
theorem dX12_tolerance_21 : decode cX12_tolerance 21 = .ok (.i2l, 1) := dk_133 (dk_at dksX12_tolerance_0 21 rfl rfl)
theorem dX12_tolerance_22 : decode cX12_tolerance 22 = .ok (.aload_n 0, 1) := dk_42 (dk_at dksX12_tolerance_0 22 rfl rfl)
theorem dX12_tolerance_23 : decode cX12_tolerance 23 = .ok (.invokevirtual 36, 3) := dk_182 0 36 (dk_at dksX12_tolerance_1 0 rfl rfl)
theorem dX12_tolerance_26 : decode cX12_tolerance 26 = .ok (.i2l, 1) := dk_133 (dk_at dksX12_tolerance_1 3 rfl rfl)
theorem dX12_tolerance_27 : decode cX12_tolerance 27 = .ok (.iload_n 1, 1) := dk_27 (dk_at dksX12_tolerance_1 4 rfl rfl)
theorem dX12_tolerance_28 : decode cX12_tolerance 28 = .ok (.i2l, 1) := dk_133 (dk_at dksX12_tolerance_1 5 rfl rfl)
theorem dX12_tolerance_29 : decode cX12_tolerance 29 = .ok (.lmul, 1) := dk_105 (dk_at dksX12_tolerance_1 6 rfl rfl)
theorem dX12_tolerance_30 : decode cX12_tolerance 30 = .ok (.lcmp, 1) := dk_148 (dk_at dksX12_tolerance_1 7 rfl rfl)
theorem dX12_tolerance_31 : decode cX12_tolerance 31 = .ok (.ifCond .gt 7, 3) := dk_157 0 7 (dk_at dksX12_tolerance_1 8 rfl rfl)
theorem dX12_tolerance_34 : decode cX12_tolerance 34 = .ok (.iload_n 1, 1) := dk_27 (dk_at dksX12_tolerance_1 11 rfl rfl)
theorem dX12_tolerance_35 : decode cX12_tolerance 35 = .ok (.goto 10, 3) := dk_167 0 10 (dk_at dksX12_tolerance_1 12 rfl rfl)
theorem dX12_tolerance_38 : decode cX12_tolerance 38 = .ok (.iconst 3, 1) := dk_6 (dk_at dksX12_tolerance_1 15 rfl rfl)
theorem dX12_tolerance_39 : decode cX12_tolerance 39 = .ok (.iload_n 1, 1) := dk_27 (dk_at dksX12_tolerance_1 16 rfl rfl)
theorem dX12_tolerance_40 : decode cX12_tolerance 40 = .ok (.imul, 1) := dk_104 (dk_at dksX12_tolerance_1 17 rfl rfl)
theorem dX12_tolerance_41 : decode cX12_tolerance 41 = .ok (.iconst 1, 1) := dk_4 (dk_at dksX12_tolerance_1 18 rfl rfl)
theorem dX12_tolerance_42 : decode cX12_tolerance 42 = .ok (.iadd, 1) := dk_96 (dk_at dksX12_tolerance_1 19 rfl rfl)
theorem dX12_tolerance_43 : decode cX12_tolerance 43 = .ok (.iconst 2, 1) := dk_5 (dk_at dksX12_tolerance_1 20 rfl rfl)
theorem dX12_tolerance_44 : decode cX12_tolerance 44 = .ok (.idiv, 1) := dk_108 (dk_at dksX12_tolerance_1 21 rfl rfl)
theorem dX12_tolerance_45 : decode cX12_tolerance 45 = .ok (.ireturn, 1) := dk_172 (dk_at dksX12_tolerance_1 22 rfl rfl)
theorem q116 : (Jvm.Cond.initialized "ScaleInspection$AccuracyClass") ∈ lw_all := lw_g (lw_at lw_m1 31 rfl) rfl
theorem q807 : (Jvm.Cond.static ({ cls := "ScaleInspection$AccuracyClass", name := "values", desc := "()[LScaleInspection$AccuracyClass;" } : Jvm.MethodName)) ∈ lw_all := lw_g (lw_at lw_m4 2 rfl) rfl
theorem q808 : (Jvm.Cond.code ({ cls := "ScaleInspection$AccuracyClass", name := "values", desc := "()[LScaleInspection$AccuracyClass;" } : Jvm.MethodName) prog_2_method_1_code (0 : Nat) (Option.some (Jvm.ClassFile.FieldType.array (Jvm.ClassFile.FieldType.object "ScaleInspection$AccuracyClass")))) ∈ lw_all := lw_g (lw_at lw_m4 3 rfl) rfl
theorem q809 : (Jvm.Cond.fieldLink "ScaleInspection$AccuracyClass" (13 : Nat) "ScaleInspection$AccuracyClass" "$VALUES" "[LScaleInspection$AccuracyClass;") ∈ lw_all := lw_g (lw_at lw_m4 4 rfl) rfl
theorem q810 : (Jvm.Cond.laysStatic "ScaleInspection$AccuracyClass" "$VALUES" "[LScaleInspection$AccuracyClass;") ∈ lw_tbl := lw_at lw_m4 5 rfl
theorem q811 : (Jvm.Cond.methodLink "ScaleInspection$AccuracyClass" (17 : Nat) ({ cls := "[LScaleInspection$AccuracyClass;", name := "clone", desc := "()Ljava/lang/Object;" } : Jvm.MethodName)) ∈ lw_all := lw_g (lw_at lw_m4 6 rfl) rfl
theorem q816 : (Jvm.Cond.classLink "ScaleInspection$AccuracyClass" (18 : Nat) "[LScaleInspection$AccuracyClass;") ∈ lw_all := lw_g (lw_at lw_m4 11 rfl) rfl
theorem q1214 : (Jvm.Cond.instanceMethod ({ cls := "ScaleInspection$AccuracyClass", name := "tolerance", desc := "(II)I" } : Jvm.MethodName)) ∈ lw_all := lw_g (lw_at lw_m5 169 rfl) rfl
theorem q1215 : (Jvm.Cond.sameMethod "ScaleInspection$AccuracyClass" "ScaleInspection$AccuracyClass" "tolerance" "(II)I") ∈ lw_all := lw_g (lw_at lw_m5 170 rfl) rfl
theorem q1219 : (Jvm.Cond.code ({ cls := "ScaleInspection$AccuracyClass", name := "tolerance", desc := "(II)I" } : Jvm.MethodName) prog_2_method_6_code (3 : Nat) (Option.some Jvm.ClassFile.FieldType.int)) ∈ lw_all := lw_g (lw_at lw_m5 174 rfl) rfl
theorem q1220 : (Jvm.Cond.methodLink "ScaleInspection$AccuracyClass" (32 : Nat) ({ cls := "ScaleInspection$AccuracyClass", name := "firstStep", desc := "()I" } : Jvm.MethodName)) ∈ lw_all := lw_g (lw_at lw_m5 175 rfl) rfl
theorem q1221 : (Jvm.Cond.declares ({ cls := "ScaleInspection$AccuracyClass", name := "firstStep", desc := "()I" } : Jvm.MethodName)) ∈ lw_tbl := lw_at lw_m5 176 rfl
theorem q1222 : (Jvm.Cond.sameMethod "ScaleInspection$AccuracyClass" "ScaleInspection$AccuracyClass" "firstStep" "()I") ∈ lw_all := lw_g (lw_at lw_m5 177 rfl) rfl
theorem q1232 : (Jvm.Cond.methodLink "ScaleInspection$AccuracyClass" (36 : Nat) ({ cls := "ScaleInspection$AccuracyClass", name := "secondStep", desc := "()I" } : Jvm.MethodName)) ∈ lw_all := lw_g (lw_at lw_m5 187 rfl) rfl
theorem q1233 : (Jvm.Cond.declares ({ cls := "ScaleInspection$AccuracyClass", name := "secondStep", desc := "()I" } : Jvm.MethodName)) ∈ lw_tbl := lw_at lw_m5 188 rfl
theorem q1234 : (Jvm.Cond.sameMethod "ScaleInspection$AccuracyClass" "ScaleInspection$AccuracyClass" "secondStep" "()I") ∈ lw_all := lw_g (lw_at lw_m5 189 rfl) rfl
theorem q2204 : (Jvm.Cond.castable "ScaleInspection$AccuracyClass" "java/lang/Object") ∈ lw_tbl := lw_at lw_m9 199 rfl
theorem q2243 : (Jvm.Cond.laysStatic "ScaleInspection$AccuracyClass" "FINE" "LScaleInspection$AccuracyClass;") ∈ lw_tbl := lw_at lw_m9 238 rfl
theorem q2244 : (Jvm.Cond.laysStatic "ScaleInspection$AccuracyClass" "MEDIUM" "LScaleInspection$AccuracyClass;") ∈ lw_tbl := lw_at lw_m9 239 rfl
theorem q2245 : (Jvm.Cond.laysStatic "ScaleInspection$AccuracyClass" "ORDINARY" "LScaleInspection$AccuracyClass;") ∈ lw_tbl := lw_at lw_m10 0 rfl


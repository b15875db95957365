set_option maxRecDepth 100000
/-! ScaleInspection$AccuracyClass$1 -/
abbrev cX18_firstStep : ByteArray := prog_3_method_2_code
def yX18_firstStep : MethodName := ⟨RX18, "firstStep", "()I"⟩
theorem dX18_firstStep_0 : decode cX18_firstStep 0 = .ok (.sipush 5000, 3) := by decide +kernel
theorem dX18_firstStep_3 : decode cX18_firstStep 3 = .ok (.ireturn, 1) := by decide +kernel
abbrev cX18_secondStep : ByteArray := prog_3_method_3_code
def yX18_secondStep : MethodName := ⟨RX18, "secondStep", "()I"⟩
theorem dX18_secondStep_0 : decode cX18_secondStep 0 = .ok (.sipush 20000, 3) := by decide +kernel
theorem dX18_secondStep_3 : decode cX18_secondStep 3 = .ok (.ireturn, 1) := by decide +kernel
theorem q862 : (Jvm.Cond.selects "ScaleInspection$AccuracyClass$1" ({ cls := "java/lang/Object", name := "getClass", desc := "()Ljava/lang/Class;" } : Jvm.MethodName) ({ cls := "java/lang/Object", name := "getClass", desc := "()Ljava/lang/Class;" } : Jvm.MethodName)) ∈ lw_all := lw_g (lw_at lw_m4 57 rfl) rfl
theorem q1216 : (Jvm.Cond.selects "ScaleInspection$AccuracyClass$1" ({ cls := "ScaleInspection$AccuracyClass", name := "tolerance", desc := "(II)I" } : Jvm.MethodName) ({ cls := "ScaleInspection$AccuracyClass", name := "tolerance", desc := "(II)I" } : Jvm.MethodName)) ∈ lw_all := lw_g (lw_at lw_m5 171 rfl) rfl
theorem q1223 : (Jvm.Cond.selects "ScaleInspection$AccuracyClass$1" ({ cls := "ScaleInspection$AccuracyClass", name := "firstStep", desc := "()I" } : Jvm.MethodName) ({ cls := "ScaleInspection$AccuracyClass$1", name := "firstStep", desc := "()I" } : Jvm.MethodName)) ∈ lw_all := lw_g (lw_at lw_m5 178 rfl) rfl
theorem q1224 : (Jvm.Cond.instanceMethod ({ cls := "ScaleInspection$AccuracyClass$1", name := "firstStep", desc := "()I" } : Jvm.MethodName)) ∈ lw_all := lw_g (lw_at lw_m5 179 rfl) rfl
theorem q1225 : (Jvm.Cond.code ({ cls := "ScaleInspection$AccuracyClass$1", name := "firstStep", desc := "()I" } : Jvm.MethodName) prog_3_method_2_code (1 : Nat) (Option.some Jvm.ClassFile.FieldType.int)) ∈ lw_all := lw_g (lw_at lw_m5 180 rfl) rfl
theorem q1235 : (Jvm.Cond.selects "ScaleInspection$AccuracyClass$1" ({ cls := "ScaleInspection$AccuracyClass", name := "secondStep", desc := "()I" } : Jvm.MethodName) ({ cls := "ScaleInspection$AccuracyClass$1", name := "secondStep", desc := "()I" } : Jvm.MethodName)) ∈ lw_all := lw_g (lw_at lw_m5 190 rfl) rfl
theorem q1236 : (Jvm.Cond.instanceMethod ({ cls := "ScaleInspection$AccuracyClass$1", name := "secondStep", desc := "()I" } : Jvm.MethodName)) ∈ lw_all := lw_g (lw_at lw_m5 191 rfl) rfl
theorem q1237 : (Jvm.Cond.code ({ cls := "ScaleInspection$AccuracyClass$1", name := "secondStep", desc := "()I" } : Jvm.MethodName) prog_3_method_3_code (1 : Nat) (Option.some Jvm.ClassFile.FieldType.int)) ∈ lw_all := lw_g (lw_at lw_m5 192 rfl) rfl
theorem q2218 : (Jvm.Cond.castable "ScaleInspection$AccuracyClass$1" "java/lang/Object") ∈ lw_tbl := lw_at lw_m9 213 rfl
theorem q2229 : (Jvm.Cond.castable "ScaleInspection$AccuracyClass$1" "ScaleInspection$AccuracyClass") ∈ lw_tbl := lw_at lw_m9 224 rfl


set_option maxRecDepth 100000
/-! ScaleInspection$AccuracyClass$3 -/
abbrev cX20_firstStep : ByteArray := prog_5_method_2_code
def yX20_firstStep : MethodName := ⟨RX20, "firstStep", "()I"⟩
theorem dX20_firstStep_0 : decode cX20_firstStep 0 = .ok (.bipush 50, 2) := by decide +kernel
theorem dX20_firstStep_2 : decode cX20_firstStep 2 = .ok (.ireturn, 1) := by decide +kernel
abbrev cX20_secondStep : ByteArray := prog_5_method_3_code
def yX20_secondStep : MethodName := ⟨RX20, "secondStep", "()I"⟩
theorem dX20_secondStep_0 : decode cX20_secondStep 0 = .ok (.sipush 200, 3) := by decide +kernel
theorem dX20_secondStep_3 : decode cX20_secondStep 3 = .ok (.ireturn, 1) := by decide +kernel
theorem q864 : (Jvm.Cond.selects "ScaleInspection$AccuracyClass$3" ({ cls := "java/lang/Object", name := "getClass", desc := "()Ljava/lang/Class;" } : Jvm.MethodName) ({ cls := "java/lang/Object", name := "getClass", desc := "()Ljava/lang/Class;" } : Jvm.MethodName)) ∈ lw_all := lw_g (lw_at lw_m4 59 rfl) rfl
theorem q1218 : (Jvm.Cond.selects "ScaleInspection$AccuracyClass$3" ({ cls := "ScaleInspection$AccuracyClass", name := "tolerance", desc := "(II)I" } : Jvm.MethodName) ({ cls := "ScaleInspection$AccuracyClass", name := "tolerance", desc := "(II)I" } : Jvm.MethodName)) ∈ lw_all := lw_g (lw_at lw_m5 173 rfl) rfl
theorem q1229 : (Jvm.Cond.selects "ScaleInspection$AccuracyClass$3" ({ cls := "ScaleInspection$AccuracyClass", name := "firstStep", desc := "()I" } : Jvm.MethodName) ({ cls := "ScaleInspection$AccuracyClass$3", name := "firstStep", desc := "()I" } : Jvm.MethodName)) ∈ lw_all := lw_g (lw_at lw_m5 184 rfl) rfl
theorem q1230 : (Jvm.Cond.instanceMethod ({ cls := "ScaleInspection$AccuracyClass$3", name := "firstStep", desc := "()I" } : Jvm.MethodName)) ∈ lw_all := lw_g (lw_at lw_m5 185 rfl) rfl
theorem q1231 : (Jvm.Cond.code ({ cls := "ScaleInspection$AccuracyClass$3", name := "firstStep", desc := "()I" } : Jvm.MethodName) prog_5_method_2_code (1 : Nat) (Option.some Jvm.ClassFile.FieldType.int)) ∈ lw_all := lw_g (lw_at lw_m5 186 rfl) rfl
theorem q1241 : (Jvm.Cond.selects "ScaleInspection$AccuracyClass$3" ({ cls := "ScaleInspection$AccuracyClass", name := "secondStep", desc := "()I" } : Jvm.MethodName) ({ cls := "ScaleInspection$AccuracyClass$3", name := "secondStep", desc := "()I" } : Jvm.MethodName)) ∈ lw_all := lw_g (lw_at lw_m5 196 rfl) rfl
theorem q1242 : (Jvm.Cond.instanceMethod ({ cls := "ScaleInspection$AccuracyClass$3", name := "secondStep", desc := "()I" } : Jvm.MethodName)) ∈ lw_all := lw_g (lw_at lw_m5 197 rfl) rfl
theorem q1243 : (Jvm.Cond.code ({ cls := "ScaleInspection$AccuracyClass$3", name := "secondStep", desc := "()I" } : Jvm.MethodName) prog_5_method_3_code (1 : Nat) (Option.some Jvm.ClassFile.FieldType.int)) ∈ lw_all := lw_g (lw_at lw_m5 198 rfl) rfl
theorem q2220 : (Jvm.Cond.castable "ScaleInspection$AccuracyClass$3" "java/lang/Object") ∈ lw_tbl := lw_at lw_m9 215 rfl
theorem q2231 : (Jvm.Cond.castable "ScaleInspection$AccuracyClass$3" "ScaleInspection$AccuracyClass") ∈ lw_tbl := lw_at lw_m9 226 rfl


set_option maxRecDepth 100000
/-! ScaleInspection$AccuracyClass$2 -/
abbrev cX19_firstStep : ByteArray := prog_4_method_2_code
def yX19_firstStep : MethodName := ⟨RX19, "firstStep", "()I"⟩
theorem dX19_firstStep_0 : decode cX19_firstStep 0 = .ok (.sipush 500, 3) := by decide +kernel
theorem dX19_firstStep_3 : decode cX19_firstStep 3 = .ok (.ireturn, 1) := by decide +kernel
abbrev cX19_secondStep : ByteArray := prog_4_method_3_code
def yX19_secondStep : MethodName := ⟨RX19, "secondStep", "()I"⟩
theorem dX19_secondStep_0 : decode cX19_secondStep 0 = .ok (.sipush 2000, 3) := by decide +kernel
theorem dX19_secondStep_3 : decode cX19_secondStep 3 = .ok (.ireturn, 1) := by decide +kernel
theorem q863 : (Jvm.Cond.selects "ScaleInspection$AccuracyClass$2" ({ cls := "java/lang/Object", name := "getClass", desc := "()Ljava/lang/Class;" } : Jvm.MethodName) ({ cls := "java/lang/Object", name := "getClass", desc := "()Ljava/lang/Class;" } : Jvm.MethodName)) ∈ lw_all := lw_g (lw_at lw_m4 58 rfl) rfl
theorem q1217 : (Jvm.Cond.selects "ScaleInspection$AccuracyClass$2" ({ cls := "ScaleInspection$AccuracyClass", name := "tolerance", desc := "(II)I" } : Jvm.MethodName) ({ cls := "ScaleInspection$AccuracyClass", name := "tolerance", desc := "(II)I" } : Jvm.MethodName)) ∈ lw_all := lw_g (lw_at lw_m5 172 rfl) rfl
theorem q1226 : (Jvm.Cond.selects "ScaleInspection$AccuracyClass$2" ({ cls := "ScaleInspection$AccuracyClass", name := "firstStep", desc := "()I" } : Jvm.MethodName) ({ cls := "ScaleInspection$AccuracyClass$2", name := "firstStep", desc := "()I" } : Jvm.MethodName)) ∈ lw_all := lw_g (lw_at lw_m5 181 rfl) rfl
theorem q1227 : (Jvm.Cond.instanceMethod ({ cls := "ScaleInspection$AccuracyClass$2", name := "firstStep", desc := "()I" } : Jvm.MethodName)) ∈ lw_all := lw_g (lw_at lw_m5 182 rfl) rfl
theorem q1228 : (Jvm.Cond.code ({ cls := "ScaleInspection$AccuracyClass$2", name := "firstStep", desc := "()I" } : Jvm.MethodName) prog_4_method_2_code (1 : Nat) (Option.some Jvm.ClassFile.FieldType.int)) ∈ lw_all := lw_g (lw_at lw_m5 183 rfl) rfl
theorem q1238 : (Jvm.Cond.selects "ScaleInspection$AccuracyClass$2" ({ cls := "ScaleInspection$AccuracyClass", name := "secondStep", desc := "()I" } : Jvm.MethodName) ({ cls := "ScaleInspection$AccuracyClass$2", name := "secondStep", desc := "()I" } : Jvm.MethodName)) ∈ lw_all := lw_g (lw_at lw_m5 193 rfl) rfl
theorem q1239 : (Jvm.Cond.instanceMethod ({ cls := "ScaleInspection$AccuracyClass$2", name := "secondStep", desc := "()I" } : Jvm.MethodName)) ∈ lw_all := lw_g (lw_at lw_m5 194 rfl) rfl
theorem q1240 : (Jvm.Cond.code ({ cls := "ScaleInspection$AccuracyClass$2", name := "secondStep", desc := "()I" } : Jvm.MethodName) prog_4_method_3_code (1 : Nat) (Option.some Jvm.ClassFile.FieldType.int)) ∈ lw_all := lw_g (lw_at lw_m5 195 rfl) rfl
theorem q2219 : (Jvm.Cond.castable "ScaleInspection$AccuracyClass$2" "java/lang/Object") ∈ lw_tbl := lw_at lw_m9 214 rfl
theorem q2230 : (Jvm.Cond.castable "ScaleInspection$AccuracyClass$2" "ScaleInspection$AccuracyClass") ∈ lw_tbl := lw_at lw_m9 225 rfl


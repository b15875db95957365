set_option maxRecDepth 100000
/-! ScaleInspection$WeightSet -/
abbrev cX13_init : ByteArray := prog_18_method_1_code
def yX13_init : MethodName := ⟨RX13, "<init>", "(IZ)V"⟩
def dkwX13_init_0 : List UInt8 := [42, 183, 0, 1, 42, 27, 181, 0, 7, 42, 28, 181, 0, 13, 177]
abbrev dktX13_init_0 : List UInt8 := dkwX13_init_0 ++ []
theorem dksX13_init_0 : cX13_init.data.toList.drop 0 = dktX13_init_0 := by decide +kernel
theorem dX13_init_0 : decode cX13_init 0 = .ok (.aload_n 0, 1) := dk_42 (dk_at dksX13_init_0 0 rfl rfl)
theorem dX13_init_1 : decode cX13_init 1 = .ok (.invokespecial 1, 3) := dk_183 0 1 (dk_at dksX13_init_0 1 rfl rfl)
theorem dX13_init_4 : decode cX13_init 4 = .ok (.aload_n 0, 1) := dk_42 (dk_at dksX13_init_0 4 rfl rfl)
theorem dX13_init_5 : decode cX13_init 5 = .ok (.iload_n 1, 1) := dk_27 (dk_at dksX13_init_0 5 rfl rfl)
theorem dX13_init_6 : decode cX13_init 6 = .ok (.putfield 7, 3) := dk_181 0 7 (dk_at dksX13_init_0 6 rfl rfl)
theorem dX13_init_9 : decode cX13_init 9 = .ok (.aload_n 0, 1) := dk_42 (dk_at dksX13_init_0 9 rfl rfl)
theorem dX13_init_10 : decode cX13_init 10 = .ok (.iload_n 2, 1) := dk_28 (dk_at dksX13_init_0 10 rfl rfl)
theorem dX13_init_11 : decode cX13_init 11 = .ok (.putfield 13, 3) := dk_181 0 13 (dk_at dksX13_init_0 11 rfl rfl)
theorem dX13_init_14 : decode cX13_init 14 = .ok (.return_, 1) := dk_177 (dk_at dksX13_init_0 14 rfl rfl)
theorem q117 : (Jvm.Cond.initialized "ScaleInspection$WeightSet") ∈ lw_all := lw_g (lw_at lw_m1 32 rfl) rfl
theorem q876 : (Jvm.Cond.selects "ScaleInspection$WeightSet" ({ cls := "java/lang/Object", name := "getClass", desc := "()Ljava/lang/Class;" } : Jvm.MethodName) ({ cls := "java/lang/Object", name := "getClass", desc := "()Ljava/lang/Class;" } : Jvm.MethodName)) ∈ lw_all := lw_g (lw_at lw_m4 71 rfl) rfl
theorem q907 : (Jvm.Cond.instantiable "ScaleInspection$WeightSet" (2 : Nat)) ∈ lw_all := lw_g (lw_at lw_m4 102 rfl) rfl
theorem q910 : (Jvm.Cond.instanceMethod ({ cls := "ScaleInspection$WeightSet", name := "<init>", desc := "(IZ)V" } : Jvm.MethodName)) ∈ lw_all := lw_g (lw_at lw_m4 105 rfl) rfl
theorem q911 : (Jvm.Cond.code ({ cls := "ScaleInspection$WeightSet", name := "<init>", desc := "(IZ)V" } : Jvm.MethodName) prog_18_method_1_code (3 : Nat) (Option.none : Option Jvm.ClassFile.FieldType)) ∈ lw_all := lw_g (lw_at lw_m4 106 rfl) rfl
theorem q912 : (Jvm.Cond.methodLink "ScaleInspection$WeightSet" (1 : Nat) ({ cls := "java/lang/Object", name := "<init>", desc := "()V" } : Jvm.MethodName)) ∈ lw_all := lw_g (lw_at lw_m4 107 rfl) rfl
theorem q913 : (Jvm.Cond.fieldLink "ScaleInspection$WeightSet" (7 : Nat) "ScaleInspection$WeightSet" "count" "I") ∈ lw_all := lw_g (lw_at lw_m4 108 rfl) rfl
theorem q915 : (Jvm.Cond.fieldLink "ScaleInspection$WeightSet" (13 : Nat) "ScaleInspection$WeightSet" "canBeGenuine" "Z") ∈ lw_all := lw_g (lw_at lw_m4 110 rfl) rfl
theorem q917 : (Jvm.Cond.laysFinal "ScaleInspection$WeightSet" "ScaleInspection$WeightSet" "count" "I") ∈ lw_all := lw_g (lw_at lw_m4 112 rfl) rfl
theorem q918 : (Jvm.Cond.soleField "ScaleInspection$WeightSet" "count") ∈ lw_all := lw_g (lw_at lw_m4 113 rfl) rfl
theorem q919 : (Jvm.Cond.laysFinal "ScaleInspection$WeightSet" "ScaleInspection$WeightSet" "canBeGenuine" "Z") ∈ lw_all := lw_g (lw_at lw_m4 114 rfl) rfl
theorem q920 : (Jvm.Cond.soleField "ScaleInspection$WeightSet" "canBeGenuine") ∈ lw_all := lw_g (lw_at lw_m4 115 rfl) rfl
theorem q921 : (Jvm.Cond.superclass "ScaleInspection$WeightSet" "java/lang/Object") ∈ lw_all := lw_g (lw_at lw_m4 116 rfl) rfl
theorem q2221 : (Jvm.Cond.castable "ScaleInspection$WeightSet" "java/lang/Object") ∈ lw_tbl := lw_at lw_m9 216 rfl


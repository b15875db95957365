set_option maxRecDepth 100000
/-! ScaleInspection$Scale -/
abbrev cX11_init : ByteArray := prog_13_method_1_code
def yX11_init : MethodName := ⟨RX11, "<init>", "(IIII)V"⟩
def dkwX11_init_1 : List UInt8 := [29, 181, 0, 26, 42, 21, 4, 181, 0, 29, 177]
abbrev dktX11_init_1 : List UInt8 := dkwX11_init_1 ++ []
def dkwX11_init_0 : List UInt8 := [42, 183, 0, 1, 42, 27, 181, 0, 7, 42, 28, 181, 0, 13, 42, 184, 0, 16, 28, 50, 181, 0, 22, 42]
abbrev dktX11_init_0 : List UInt8 := dkwX11_init_0 ++ dktX11_init_1
theorem dksX11_init_0 : cX11_init.data.toList.drop 0 = dktX11_init_0 := by decide +kernel
theorem dksX11_init_1 : cX11_init.data.toList.drop 24 = dktX11_init_1 := dk_seg dksX11_init_0 24 rfl rfl
theorem dX11_init_0 : decode cX11_init 0 = .ok (.aload_n 0, 1) := dk_42 (dk_at dksX11_init_0 0 rfl rfl)
theorem dX11_init_1 : decode cX11_init 1 = .ok (.invokespecial 1, 3) := dk_183 0 1 (dk_at dksX11_init_0 1 rfl rfl)
theorem dX11_init_4 : decode cX11_init 4 = .ok (.aload_n 0, 1) := dk_42 (dk_at dksX11_init_0 4 rfl rfl)
theorem dX11_init_5 : decode cX11_init 5 = .ok (.iload_n 1, 1) := dk_27 (dk_at dksX11_init_0 5 rfl rfl)
theorem dX11_init_6 : decode cX11_init 6 = .ok (.putfield 7, 3) := dk_181 0 7 (dk_at dksX11_init_0 6 rfl rfl)
theorem dX11_init_9 : decode cX11_init 9 = .ok (.aload_n 0, 1) := dk_42 (dk_at dksX11_init_0 9 rfl rfl)
theorem dX11_init_10 : decode cX11_init 10 = .ok (.iload_n 2, 1) := dk_28 (dk_at dksX11_init_0 10 rfl rfl)
theorem dX11_init_11 : decode cX11_init 11 = .ok (.putfield 13, 3) := dk_181 0 13 (dk_at dksX11_init_0 11 rfl rfl)
theorem dX11_init_14 : decode cX11_init 14 = .ok (.aload_n 0, 1) := dk_42 (dk_at dksX11_init_0 14 rfl rfl)
theorem dX11_init_15 : decode cX11_init 15 = .ok (.invokestatic 16, 3) := dk_184 0 16 (dk_at dksX11_init_0 15 rfl rfl)
theorem dX11_init_18 : decode cX11_init 18 = .ok (.iload_n 2, 1) := dk_28 (dk_at dksX11_init_0 18 rfl rfl)
theorem dX11_init_19 : decode cX11_init 19 = .ok (.aaload, 1) := dk_50 (dk_at dksX11_init_0 19 rfl rfl)
theorem dX11_init_20 : decode cX11_init 20 = .ok (.putfield 22, 3) := dk_181 0 22 (dk_at dksX11_init_0 20 rfl rfl)
theorem dX11_init_23 : decode cX11_init 23 = .ok (.aload_n 0, 1) := dk_42 (dk_at dksX11_init_0 23 rfl rfl)
theorem dX11_init_24 : decode cX11_init 24 = .ok (.iload_n 3, 1) := dk_29 (dk_at dksX11_init_1 0 rfl rfl)
theorem dX11_init_25 : decode cX11_init 25 = .ok (.putfield 26, 3) := dk_181 0 26 (dk_at dksX11_init_1 1 rfl rfl)
theorem dX11_init_28 : decode cX11_init 28 = .ok (.aload_n 0, 1) := dk_42 (dk_at dksX11_init_1 4 rfl rfl)
theorem dX11_init_29 : decode cX11_init 29 = .ok (.iload 4, 2) := dk_21 4 (dk_at dksX11_init_1 5 rfl rfl)
theorem dX11_init_31 : decode cX11_init 31 = .ok (.putfield 29, 3) := dk_181 0 29 (dk_at dksX11_init_1 7 rfl rfl)
theorem dX11_init_34 : decode cX11_init 34 = .ok (.return_, 1) := dk_177 (dk_at dksX11_init_1 10 rfl rfl)
abbrev cX11_tolerance : ByteArray := prog_13_method_2_code
def yX11_tolerance : MethodName := ⟨RX11, "tolerance", "(I)I"⟩
def dkwX11_tolerance_0 : List UInt8 := [42, 180, 0, 22, 42, 180, 0, 26, 27, 182, 0, 32, 172]
abbrev dktX11_tolerance_0 : List UInt8 := dkwX11_tolerance_0 ++ []
theorem dksX11_tolerance_0 : cX11_tolerance.data.toList.drop 0 = dktX11_tolerance_0 := by decide +kernel
theorem dX11_tolerance_0 : decode cX11_tolerance 0 = .ok (.aload_n 0, 1) := dk_42 (dk_at dksX11_tolerance_0 0 rfl rfl)
theorem dX11_tolerance_1 : decode cX11_tolerance 1 = .ok (.getfield 22, 3) := dk_180 0 22 (dk_at dksX11_tolerance_0 1 rfl rfl)
theorem dX11_tolerance_4 : decode cX11_tolerance 4 = .ok (.aload_n 0, 1) := dk_42 (dk_at dksX11_tolerance_0 4 rfl rfl)
theorem dX11_tolerance_5 : decode cX11_tolerance 5 = .ok (.getfield 26, 3) := dk_180 0 26 (dk_at dksX11_tolerance_0 5 rfl rfl)
theorem dX11_tolerance_8 : decode cX11_tolerance 8 = .ok (.iload_n 1, 1) := dk_27 (dk_at dksX11_tolerance_0 8 rfl rfl)
theorem dX11_tolerance_9 : decode cX11_tolerance 9 = .ok (.invokevirtual 32, 3) := dk_182 0 32 (dk_at dksX11_tolerance_0 9 rfl rfl)
theorem dX11_tolerance_12 : decode cX11_tolerance 12 = .ok (.ireturn, 1) := dk_172 (dk_at dksX11_tolerance_0 12 rfl rfl)
theorem q114 : (Jvm.Cond.initialized "ScaleInspection$Scale") ∈ lw_all := lw_g (lw_at lw_m1 29 rfl) rfl
theorem q800 : (Jvm.Cond.instantiable "ScaleInspection$Scale" (5 : Nat)) ∈ lw_all := lw_g (lw_at lw_m3 235 rfl) rfl
theorem q803 : (Jvm.Cond.instanceMethod ({ cls := "ScaleInspection$Scale", name := "<init>", desc := "(IIII)V" } : Jvm.MethodName)) ∈ lw_all := lw_g (lw_at lw_m3 238 rfl) rfl
theorem q804 : (Jvm.Cond.code ({ cls := "ScaleInspection$Scale", name := "<init>", desc := "(IIII)V" } : Jvm.MethodName) prog_13_method_1_code (5 : Nat) (Option.none : Option Jvm.ClassFile.FieldType)) ∈ lw_all := lw_g (lw_at lw_m3 239 rfl) rfl
theorem q805 : (Jvm.Cond.methodLink "ScaleInspection$Scale" (1 : Nat) ({ cls := "java/lang/Object", name := "<init>", desc := "()V" } : Jvm.MethodName)) ∈ lw_all := lw_g (lw_at lw_m4 0 rfl) rfl
theorem q806 : (Jvm.Cond.methodLink "ScaleInspection$Scale" (16 : Nat) ({ cls := "ScaleInspection$AccuracyClass", name := "values", desc := "()[LScaleInspection$AccuracyClass;" } : Jvm.MethodName)) ∈ lw_all := lw_g (lw_at lw_m4 1 rfl) rfl
theorem q817 : (Jvm.Cond.fieldLink "ScaleInspection$Scale" (7 : Nat) "ScaleInspection$Scale" "trader" "I") ∈ lw_all := lw_g (lw_at lw_m4 12 rfl) rfl
theorem q819 : (Jvm.Cond.fieldLink "ScaleInspection$Scale" (13 : Nat) "ScaleInspection$Scale" "accuracy" "I") ∈ lw_all := lw_g (lw_at lw_m4 14 rfl) rfl
theorem q821 : (Jvm.Cond.fieldLink "ScaleInspection$Scale" (26 : Nat) "ScaleInspection$Scale" "division" "I") ∈ lw_all := lw_g (lw_at lw_m4 16 rfl) rfl
theorem q822 : (Jvm.Cond.fieldLink "ScaleInspection$Scale" (29 : Nat) "ScaleInspection$Scale" "capacity" "I") ∈ lw_all := lw_g (lw_at lw_m4 17 rfl) rfl
theorem q824 : (Jvm.Cond.fieldLink "ScaleInspection$Scale" (22 : Nat) "ScaleInspection$Scale" "accuracyClass" "LScaleInspection$AccuracyClass;") ∈ lw_all := lw_g (lw_at lw_m4 19 rfl) rfl
theorem q825 : (Jvm.Cond.laysFinal "ScaleInspection$Scale" "ScaleInspection$Scale" "trader" "I") ∈ lw_all := lw_g (lw_at lw_m4 20 rfl) rfl
theorem q826 : (Jvm.Cond.soleField "ScaleInspection$Scale" "trader") ∈ lw_all := lw_g (lw_at lw_m4 21 rfl) rfl
theorem q827 : (Jvm.Cond.laysFinal "ScaleInspection$Scale" "ScaleInspection$Scale" "accuracy" "I") ∈ lw_all := lw_g (lw_at lw_m4 22 rfl) rfl
theorem q828 : (Jvm.Cond.soleField "ScaleInspection$Scale" "accuracy") ∈ lw_all := lw_g (lw_at lw_m4 23 rfl) rfl
theorem q829 : (Jvm.Cond.laysFinal "ScaleInspection$Scale" "ScaleInspection$Scale" "division" "I") ∈ lw_all := lw_g (lw_at lw_m4 24 rfl) rfl
theorem q830 : (Jvm.Cond.soleField "ScaleInspection$Scale" "division") ∈ lw_all := lw_g (lw_at lw_m4 25 rfl) rfl
theorem q831 : (Jvm.Cond.laysFinal "ScaleInspection$Scale" "ScaleInspection$Scale" "capacity" "I") ∈ lw_all := lw_g (lw_at lw_m4 26 rfl) rfl
theorem q832 : (Jvm.Cond.soleField "ScaleInspection$Scale" "capacity") ∈ lw_all := lw_g (lw_at lw_m4 27 rfl) rfl
theorem q833 : (Jvm.Cond.laysFinal "ScaleInspection$Scale" "ScaleInspection$Scale" "accuracyClass" "LScaleInspection$AccuracyClass;") ∈ lw_all := lw_g (lw_at lw_m4 28 rfl) rfl
theorem q834 : (Jvm.Cond.soleField "ScaleInspection$Scale" "accuracyClass") ∈ lw_all := lw_g (lw_at lw_m4 29 rfl) rfl
theorem q835 : (Jvm.Cond.superclass "ScaleInspection$Scale" "java/lang/Object") ∈ lw_all := lw_g (lw_at lw_m4 30 rfl) rfl
theorem q872 : (Jvm.Cond.selects "ScaleInspection$Scale" ({ cls := "java/lang/Object", name := "getClass", desc := "()Ljava/lang/Class;" } : Jvm.MethodName) ({ cls := "java/lang/Object", name := "getClass", desc := "()Ljava/lang/Class;" } : Jvm.MethodName)) ∈ lw_all := lw_g (lw_at lw_m4 67 rfl) rfl
theorem q1210 : (Jvm.Cond.instanceMethod ({ cls := "ScaleInspection$Scale", name := "tolerance", desc := "(I)I" } : Jvm.MethodName)) ∈ lw_all := lw_g (lw_at lw_m5 165 rfl) rfl
theorem q1211 : (Jvm.Cond.selects "ScaleInspection$Scale" ({ cls := "ScaleInspection$Scale", name := "tolerance", desc := "(I)I" } : Jvm.MethodName) ({ cls := "ScaleInspection$Scale", name := "tolerance", desc := "(I)I" } : Jvm.MethodName)) ∈ lw_all := lw_g (lw_at lw_m5 166 rfl) rfl
theorem q1212 : (Jvm.Cond.code ({ cls := "ScaleInspection$Scale", name := "tolerance", desc := "(I)I" } : Jvm.MethodName) prog_13_method_2_code (2 : Nat) (Option.some Jvm.ClassFile.FieldType.int)) ∈ lw_all := lw_g (lw_at lw_m5 167 rfl) rfl
theorem q1213 : (Jvm.Cond.methodLink "ScaleInspection$Scale" (32 : Nat) ({ cls := "ScaleInspection$AccuracyClass", name := "tolerance", desc := "(II)I" } : Jvm.MethodName)) ∈ lw_all := lw_g (lw_at lw_m5 168 rfl) rfl
theorem q2217 : (Jvm.Cond.castable "ScaleInspection$Scale" "java/lang/Object") ∈ lw_tbl := lw_at lw_m9 212 rfl


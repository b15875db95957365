set_option maxRecDepth 100000
/-! ScaleInspection$ParseException -/
abbrev cX10_init : ByteArray := prog_11_method_1_code
def yX10_init : MethodName := ⟨RX10, "<init>", "(II)V"⟩
def dkwX10_init_0 : List UInt8 := [42, 1, 1, 3, 3, 183, 0, 1, 42, 27, 181, 0, 7, 42, 28, 181, 0, 13, 177]
abbrev dktX10_init_0 : List UInt8 := dkwX10_init_0 ++ []
theorem dksX10_init_0 : cX10_init.data.toList.drop 0 = dktX10_init_0 := by decide +kernel
theorem dX10_init_0 : decode cX10_init 0 = .ok (.aload_n 0, 1) := dk_42 (dk_at dksX10_init_0 0 rfl rfl)
theorem dX10_init_1 : decode cX10_init 1 = .ok (.aconst_null, 1) := dk_1 (dk_at dksX10_init_0 1 rfl rfl)
theorem dX10_init_2 : decode cX10_init 2 = .ok (.aconst_null, 1) := dk_1 (dk_at dksX10_init_0 2 rfl rfl)
theorem dX10_init_3 : decode cX10_init 3 = .ok (.iconst 0, 1) := dk_3 (dk_at dksX10_init_0 3 rfl rfl)
theorem dX10_init_4 : decode cX10_init 4 = .ok (.iconst 0, 1) := dk_3 (dk_at dksX10_init_0 4 rfl rfl)
theorem dX10_init_5 : decode cX10_init 5 = .ok (.invokespecial 1, 3) := dk_183 0 1 (dk_at dksX10_init_0 5 rfl rfl)
theorem dX10_init_8 : decode cX10_init 8 = .ok (.aload_n 0, 1) := dk_42 (dk_at dksX10_init_0 8 rfl rfl)
theorem dX10_init_9 : decode cX10_init 9 = .ok (.iload_n 1, 1) := dk_27 (dk_at dksX10_init_0 9 rfl rfl)
theorem dX10_init_10 : decode cX10_init 10 = .ok (.putfield 7, 3) := dk_181 0 7 (dk_at dksX10_init_0 10 rfl rfl)
theorem dX10_init_13 : decode cX10_init 13 = .ok (.aload_n 0, 1) := dk_42 (dk_at dksX10_init_0 13 rfl rfl)
theorem dX10_init_14 : decode cX10_init 14 = .ok (.iload_n 2, 1) := dk_28 (dk_at dksX10_init_0 14 rfl rfl)
theorem dX10_init_15 : decode cX10_init 15 = .ok (.putfield 13, 3) := dk_181 0 13 (dk_at dksX10_init_0 15 rfl rfl)
theorem dX10_init_18 : decode cX10_init 18 = .ok (.return_, 1) := dk_177 (dk_at dksX10_init_0 18 rfl rfl)
theorem q113 : (Jvm.Cond.initialized "ScaleInspection$ParseException") ∈ lw_all := lw_g (lw_at lw_m1 28 rfl) rfl
theorem q189 : (Jvm.Cond.selects "ScaleInspection$ParseException" ({ cls := "java/lang/Throwable", name := "fillInStackTrace", desc := "()Ljava/lang/Throwable;" } : Jvm.MethodName) ({ cls := "java/lang/Throwable", name := "fillInStackTrace", desc := "()Ljava/lang/Throwable;" } : Jvm.MethodName)) ∈ lw_all := lw_g (lw_at lw_m1 104 rfl) rfl
theorem q737 : (Jvm.Cond.instantiable "ScaleInspection$ParseException" (8 : Nat)) ∈ lw_all := lw_g (lw_at lw_m3 172 rfl) rfl
theorem q738 : (Jvm.Cond.castable "ScaleInspection$ParseException" "ScaleInspection$ParseException") ∈ lw_tbl := lw_at lw_m3 173 rfl
theorem q739 : (Jvm.Cond.selects "ScaleInspection$ParseException" ({ cls := "java/lang/Throwable", name := "fillInStackTrace", desc := "(I)Ljava/lang/Throwable;" } : Jvm.MethodName) ({ cls := "java/lang/Throwable", name := "fillInStackTrace", desc := "(I)Ljava/lang/Throwable;" } : Jvm.MethodName)) ∈ lw_all := lw_g (lw_at lw_m3 174 rfl) rfl
theorem q740 : (Jvm.Cond.lays "ScaleInspection$ParseException" "java/lang/Throwable" "cause" "Ljava/lang/Throwable;") ∈ lw_all := lw_g (lw_at lw_m3 175 rfl) rfl
theorem q741 : (Jvm.Cond.lays "ScaleInspection$ParseException" "java/lang/Throwable" "stackTrace" "[Ljava/lang/StackTraceElement;") ∈ lw_all := lw_g (lw_at lw_m3 176 rfl) rfl
theorem q742 : (Jvm.Cond.lays "ScaleInspection$ParseException" "java/lang/Throwable" "suppressedExceptions" "Ljava/util/List;") ∈ lw_all := lw_g (lw_at lw_m3 177 rfl) rfl
theorem q743 : (Jvm.Cond.lays "ScaleInspection$ParseException" "java/lang/Throwable" "detailMessage" "Ljava/lang/String;") ∈ lw_all := lw_g (lw_at lw_m3 178 rfl) rfl
theorem q744 : (Jvm.Cond.lays "ScaleInspection$ParseException" "java/lang/Throwable" "backtrace" "Ljava/lang/Object;") ∈ lw_all := lw_g (lw_at lw_m3 179 rfl) rfl
theorem q746 : (Jvm.Cond.instanceMethod ({ cls := "ScaleInspection$ParseException", name := "<init>", desc := "(II)V" } : Jvm.MethodName)) ∈ lw_all := lw_g (lw_at lw_m3 181 rfl) rfl
theorem q747 : (Jvm.Cond.code ({ cls := "ScaleInspection$ParseException", name := "<init>", desc := "(II)V" } : Jvm.MethodName) prog_11_method_1_code (3 : Nat) (Option.none : Option Jvm.ClassFile.FieldType)) ∈ lw_all := lw_g (lw_at lw_m3 182 rfl) rfl
theorem q748 : (Jvm.Cond.methodLink "ScaleInspection$ParseException" (1 : Nat) ({ cls := "java/lang/Exception", name := "<init>", desc := "(Ljava/lang/String;Ljava/lang/Throwable;ZZ)V" } : Jvm.MethodName)) ∈ lw_all := lw_g (lw_at lw_m3 183 rfl) rfl
theorem q754 : (Jvm.Cond.fieldLink "ScaleInspection$ParseException" (7 : Nat) "ScaleInspection$ParseException" "code" "I") ∈ lw_all := lw_g (lw_at lw_m3 189 rfl) rfl
theorem q756 : (Jvm.Cond.fieldLink "ScaleInspection$ParseException" (13 : Nat) "ScaleInspection$ParseException" "position" "I") ∈ lw_all := lw_g (lw_at lw_m3 191 rfl) rfl
theorem q758 : (Jvm.Cond.laysFinal "ScaleInspection$ParseException" "ScaleInspection$ParseException" "code" "I") ∈ lw_all := lw_g (lw_at lw_m3 193 rfl) rfl
theorem q759 : (Jvm.Cond.soleField "ScaleInspection$ParseException" "code") ∈ lw_all := lw_g (lw_at lw_m3 194 rfl) rfl
theorem q760 : (Jvm.Cond.laysFinal "ScaleInspection$ParseException" "ScaleInspection$ParseException" "position" "I") ∈ lw_all := lw_g (lw_at lw_m3 195 rfl) rfl
theorem q761 : (Jvm.Cond.soleField "ScaleInspection$ParseException" "position") ∈ lw_all := lw_g (lw_at lw_m3 196 rfl) rfl
theorem q762 : (Jvm.Cond.lays "ScaleInspection$ParseException" "java/lang/Throwable" "depth" "I") ∈ lw_all := lw_g (lw_at lw_m3 197 rfl) rfl
theorem q763 : (Jvm.Cond.superclass "ScaleInspection$ParseException" "java/lang/Exception") ∈ lw_all := lw_g (lw_at lw_m3 198 rfl) rfl
theorem q870 : (Jvm.Cond.selects "ScaleInspection$ParseException" ({ cls := "java/lang/Object", name := "getClass", desc := "()Ljava/lang/Class;" } : Jvm.MethodName) ({ cls := "java/lang/Object", name := "getClass", desc := "()Ljava/lang/Class;" } : Jvm.MethodName)) ∈ lw_all := lw_g (lw_at lw_m4 65 rfl) rfl
theorem q2216 : (Jvm.Cond.castable "ScaleInspection$ParseException" "java/lang/Object") ∈ lw_tbl := lw_at lw_m9 211 rfl


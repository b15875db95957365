set_option maxRecDepth 100000
/-! ScaleInspection$Amount -/
abbrev cX9_init : ByteArray := prog_6_method_1_code
def yX9_init : MethodName := ⟨RX9, "<init>", "(III)V"⟩
def dkwX9_init_0 : List UInt8 := [42, 27, 28, 183, 0, 1, 42, 29, 181, 0, 7, 177]
abbrev dktX9_init_0 : List UInt8 := dkwX9_init_0 ++ []
theorem dksX9_init_0 : cX9_init.data.toList.drop 0 = dktX9_init_0 := by decide +kernel
theorem dX9_init_0 : decode cX9_init 0 = .ok (.aload_n 0, 1) := dk_42 (dk_at dksX9_init_0 0 rfl rfl)
theorem dX9_init_1 : decode cX9_init 1 = .ok (.iload_n 1, 1) := dk_27 (dk_at dksX9_init_0 1 rfl rfl)
theorem dX9_init_2 : decode cX9_init 2 = .ok (.iload_n 2, 1) := dk_28 (dk_at dksX9_init_0 2 rfl rfl)
theorem dX9_init_3 : decode cX9_init 3 = .ok (.invokespecial 1, 3) := dk_183 0 1 (dk_at dksX9_init_0 3 rfl rfl)
theorem dX9_init_6 : decode cX9_init 6 = .ok (.aload_n 0, 1) := dk_42 (dk_at dksX9_init_0 6 rfl rfl)
theorem dX9_init_7 : decode cX9_init 7 = .ok (.iload_n 3, 1) := dk_29 (dk_at dksX9_init_0 7 rfl rfl)
theorem dX9_init_8 : decode cX9_init 8 = .ok (.putfield 7, 3) := dk_181 0 7 (dk_at dksX9_init_0 8 rfl rfl)
theorem dX9_init_11 : decode cX9_init 11 = .ok (.return_, 1) := dk_177 (dk_at dksX9_init_0 11 rfl rfl)
abbrev cX9_isNumber : ByteArray := prog_6_method_2_code
def yX9_isNumber : MethodName := ⟨RX9, "isNumber", "()Z"⟩
theorem dX9_isNumber_0 : decode cX9_isNumber 0 = .ok (.iconst 1, 1) := by decide +kernel
theorem dX9_isNumber_1 : decode cX9_isNumber 1 = .ok (.ireturn, 1) := by decide +kernel
abbrev cX9_value : ByteArray := prog_6_method_3_code
def yX9_value : MethodName := ⟨RX9, "value", "()I"⟩
theorem dX9_value_0 : decode cX9_value 0 = .ok (.aload_n 0, 1) := by decide +kernel
theorem dX9_value_1 : decode cX9_value 1 = .ok (.getfield 7, 3) := by decide +kernel
theorem dX9_value_4 : decode cX9_value 4 = .ok (.ireturn, 1) := by decide +kernel
theorem q112 : (Jvm.Cond.initialized "ScaleInspection$Amount") ∈ lw_all := lw_g (lw_at lw_m1 27 rfl) rfl
theorem q666 : (Jvm.Cond.instantiable "ScaleInspection$Amount" (3 : Nat)) ∈ lw_all := lw_g (lw_at lw_m3 101 rfl) rfl
theorem q668 : (Jvm.Cond.instanceMethod ({ cls := "ScaleInspection$Amount", name := "<init>", desc := "(III)V" } : Jvm.MethodName)) ∈ lw_all := lw_g (lw_at lw_m3 103 rfl) rfl
theorem q669 : (Jvm.Cond.code ({ cls := "ScaleInspection$Amount", name := "<init>", desc := "(III)V" } : Jvm.MethodName) prog_6_method_1_code (4 : Nat) (Option.none : Option Jvm.ClassFile.FieldType)) ∈ lw_all := lw_g (lw_at lw_m3 104 rfl) rfl
theorem q670 : (Jvm.Cond.methodLink "ScaleInspection$Amount" (1 : Nat) ({ cls := "ScaleInspection$Token", name := "<init>", desc := "(II)V" } : Jvm.MethodName)) ∈ lw_all := lw_g (lw_at lw_m3 105 rfl) rfl
theorem q671 : (Jvm.Cond.fieldLink "ScaleInspection$Amount" (7 : Nat) "ScaleInspection$Amount" "value" "I") ∈ lw_all := lw_g (lw_at lw_m3 106 rfl) rfl
theorem q672 : (Jvm.Cond.laysFinal "ScaleInspection$Amount" "ScaleInspection$Amount" "value" "I") ∈ lw_all := lw_g (lw_at lw_m3 107 rfl) rfl
theorem q673 : (Jvm.Cond.soleField "ScaleInspection$Amount" "value") ∈ lw_all := lw_g (lw_at lw_m3 108 rfl) rfl
theorem q674 : (Jvm.Cond.laysFinal "ScaleInspection$Amount" "ScaleInspection$Token" "position" "I") ∈ lw_all := lw_g (lw_at lw_m3 109 rfl) rfl
theorem q675 : (Jvm.Cond.laysFinal "ScaleInspection$Amount" "ScaleInspection$Token" "next" "I") ∈ lw_all := lw_g (lw_at lw_m3 110 rfl) rfl
theorem q676 : (Jvm.Cond.superclass "ScaleInspection$Amount" "ScaleInspection$Token") ∈ lw_all := lw_g (lw_at lw_m3 111 rfl) rfl
theorem q700 : (Jvm.Cond.selects "ScaleInspection$Amount" ({ cls := "ScaleInspection$Token", name := "isEnd", desc := "()Z" } : Jvm.MethodName) ({ cls := "ScaleInspection$Token", name := "isEnd", desc := "()Z" } : Jvm.MethodName)) ∈ lw_all := lw_g (lw_at lw_m3 135 rfl) rfl
theorem q714 : (Jvm.Cond.selects "ScaleInspection$Amount" ({ cls := "ScaleInspection$Token", name := "isWord", desc := "(Ljava/lang/String;)Z" } : Jvm.MethodName) ({ cls := "ScaleInspection$Token", name := "isWord", desc := "(Ljava/lang/String;)Z" } : Jvm.MethodName)) ∈ lw_all := lw_g (lw_at lw_m3 149 rfl) rfl
theorem q784 : (Jvm.Cond.selects "ScaleInspection$Amount" ({ cls := "ScaleInspection$Token", name := "isNumber", desc := "()Z" } : Jvm.MethodName) ({ cls := "ScaleInspection$Amount", name := "isNumber", desc := "()Z" } : Jvm.MethodName)) ∈ lw_all := lw_g (lw_at lw_m3 219 rfl) rfl
theorem q785 : (Jvm.Cond.instanceMethod ({ cls := "ScaleInspection$Amount", name := "isNumber", desc := "()Z" } : Jvm.MethodName)) ∈ lw_all := lw_g (lw_at lw_m3 220 rfl) rfl
theorem q786 : (Jvm.Cond.code ({ cls := "ScaleInspection$Amount", name := "isNumber", desc := "()Z" } : Jvm.MethodName) prog_6_method_2_code (1 : Nat) (Option.some Jvm.ClassFile.FieldType.boolean)) ∈ lw_all := lw_g (lw_at lw_m3 221 rfl) rfl
theorem q793 : (Jvm.Cond.selects "ScaleInspection$Amount" ({ cls := "ScaleInspection$Token", name := "value", desc := "()I" } : Jvm.MethodName) ({ cls := "ScaleInspection$Amount", name := "value", desc := "()I" } : Jvm.MethodName)) ∈ lw_all := lw_g (lw_at lw_m3 228 rfl) rfl
theorem q794 : (Jvm.Cond.instanceMethod ({ cls := "ScaleInspection$Amount", name := "value", desc := "()I" } : Jvm.MethodName)) ∈ lw_all := lw_g (lw_at lw_m3 229 rfl) rfl
theorem q795 : (Jvm.Cond.code ({ cls := "ScaleInspection$Amount", name := "value", desc := "()I" } : Jvm.MethodName) prog_6_method_3_code (1 : Nat) (Option.some Jvm.ClassFile.FieldType.int)) ∈ lw_all := lw_g (lw_at lw_m3 230 rfl) rfl
theorem q865 : (Jvm.Cond.selects "ScaleInspection$Amount" ({ cls := "java/lang/Object", name := "getClass", desc := "()Ljava/lang/Class;" } : Jvm.MethodName) ({ cls := "java/lang/Object", name := "getClass", desc := "()Ljava/lang/Class;" } : Jvm.MethodName)) ∈ lw_all := lw_g (lw_at lw_m4 60 rfl) rfl
theorem q933 : (Jvm.Cond.selects "ScaleInspection$Amount" ({ cls := "ScaleInspection$Token", name := "isSemicolon", desc := "()Z" } : Jvm.MethodName) ({ cls := "ScaleInspection$Token", name := "isSemicolon", desc := "()Z" } : Jvm.MethodName)) ∈ lw_all := lw_g (lw_at lw_m4 128 rfl) rfl
theorem q2215 : (Jvm.Cond.castable "ScaleInspection$Amount" "java/lang/Object") ∈ lw_tbl := lw_at lw_m9 210 rfl


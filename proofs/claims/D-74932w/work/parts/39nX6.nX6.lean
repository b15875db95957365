set_option maxRecDepth 100000
/-! ScaleInspection$Token -/
abbrev cX6_init : ByteArray := prog_16_method_1_code
def yX6_init : MethodName := ⟨RX6, "<init>", "(II)V"⟩
def dkwX6_init_0 : List UInt8 := [42, 183, 0, 3, 42, 27, 181, 0, 9, 42, 28, 181, 0, 15, 177]
abbrev dktX6_init_0 : List UInt8 := dkwX6_init_0 ++ []
theorem dksX6_init_0 : cX6_init.data.toList.drop 0 = dktX6_init_0 := by decide +kernel
theorem dX6_init_0 : decode cX6_init 0 = .ok (.aload_n 0, 1) := dk_42 (dk_at dksX6_init_0 0 rfl rfl)
theorem dX6_init_1 : decode cX6_init 1 = .ok (.invokespecial 3, 3) := dk_183 0 3 (dk_at dksX6_init_0 1 rfl rfl)
theorem dX6_init_4 : decode cX6_init 4 = .ok (.aload_n 0, 1) := dk_42 (dk_at dksX6_init_0 4 rfl rfl)
theorem dX6_init_5 : decode cX6_init 5 = .ok (.iload_n 1, 1) := dk_27 (dk_at dksX6_init_0 5 rfl rfl)
theorem dX6_init_6 : decode cX6_init 6 = .ok (.putfield 9, 3) := dk_181 0 9 (dk_at dksX6_init_0 6 rfl rfl)
theorem dX6_init_9 : decode cX6_init 9 = .ok (.aload_n 0, 1) := dk_42 (dk_at dksX6_init_0 9 rfl rfl)
theorem dX6_init_10 : decode cX6_init 10 = .ok (.iload_n 2, 1) := dk_28 (dk_at dksX6_init_0 10 rfl rfl)
theorem dX6_init_11 : decode cX6_init 11 = .ok (.putfield 15, 3) := dk_181 0 15 (dk_at dksX6_init_0 11 rfl rfl)
theorem dX6_init_14 : decode cX6_init 14 = .ok (.return_, 1) := dk_177 (dk_at dksX6_init_0 14 rfl rfl)
abbrev cX6_isEnd : ByteArray := prog_16_method_6_code
def yX6_isEnd : MethodName := ⟨RX6, "isEnd", "()Z"⟩
theorem dX6_isEnd_0 : decode cX6_isEnd 0 = .ok (.iconst 0, 1) := by decide +kernel
theorem dX6_isEnd_1 : decode cX6_isEnd 1 = .ok (.ireturn, 1) := by decide +kernel
abbrev cX6_isWord : ByteArray := prog_16_method_2_code
def yX6_isWord : MethodName := ⟨RX6, "isWord", "(Ljava/lang/String;)Z"⟩
theorem dX6_isWord_0 : decode cX6_isWord 0 = .ok (.iconst 0, 1) := by decide +kernel
theorem dX6_isWord_1 : decode cX6_isWord 1 = .ok (.ireturn, 1) := by decide +kernel
abbrev cX6_isNumber : ByteArray := prog_16_method_3_code
def yX6_isNumber : MethodName := ⟨RX6, "isNumber", "()Z"⟩
theorem dX6_isNumber_0 : decode cX6_isNumber 0 = .ok (.iconst 0, 1) := by decide +kernel
theorem dX6_isNumber_1 : decode cX6_isNumber 1 = .ok (.ireturn, 1) := by decide +kernel
abbrev cX6_value : ByteArray := prog_16_method_4_code
def yX6_value : MethodName := ⟨RX6, "value", "()I"⟩
theorem dX6_value_0 : decode cX6_value 0 = .ok (.bipush (-2), 2) := by decide +kernel
theorem dX6_value_2 : decode cX6_value 2 = .ok (.ireturn, 1) := by decide +kernel
abbrev cX6_isSemicolon : ByteArray := prog_16_method_5_code
def yX6_isSemicolon : MethodName := ⟨RX6, "isSemicolon", "()Z"⟩
theorem dX6_isSemicolon_0 : decode cX6_isSemicolon 0 = .ok (.iconst 0, 1) := by decide +kernel
theorem dX6_isSemicolon_1 : decode cX6_isSemicolon 1 = .ok (.ireturn, 1) := by decide +kernel
theorem q109 : (Jvm.Cond.initialized "ScaleInspection$Token") ∈ lw_all := lw_g (lw_at lw_m1 24 rfl) rfl
theorem q635 : (Jvm.Cond.instanceMethod ({ cls := "ScaleInspection$Token", name := "<init>", desc := "(II)V" } : Jvm.MethodName)) ∈ lw_all := lw_g (lw_at lw_m3 70 rfl) rfl
theorem q636 : (Jvm.Cond.code ({ cls := "ScaleInspection$Token", name := "<init>", desc := "(II)V" } : Jvm.MethodName) prog_16_method_1_code (3 : Nat) (Option.none : Option Jvm.ClassFile.FieldType)) ∈ lw_all := lw_g (lw_at lw_m3 71 rfl) rfl
theorem q637 : (Jvm.Cond.methodLink "ScaleInspection$Token" (3 : Nat) ({ cls := "java/lang/Object", name := "<init>", desc := "()V" } : Jvm.MethodName)) ∈ lw_all := lw_g (lw_at lw_m3 72 rfl) rfl
theorem q639 : (Jvm.Cond.fieldLink "ScaleInspection$Token" (9 : Nat) "ScaleInspection$Token" "position" "I") ∈ lw_all := lw_g (lw_at lw_m3 74 rfl) rfl
theorem q641 : (Jvm.Cond.fieldLink "ScaleInspection$Token" (15 : Nat) "ScaleInspection$Token" "next" "I") ∈ lw_all := lw_g (lw_at lw_m3 76 rfl) rfl
theorem q646 : (Jvm.Cond.soleField "ScaleInspection$Token" "position") ∈ lw_all := lw_g (lw_at lw_m3 81 rfl) rfl
theorem q648 : (Jvm.Cond.soleField "ScaleInspection$Token" "next") ∈ lw_all := lw_g (lw_at lw_m3 83 rfl) rfl
theorem q698 : (Jvm.Cond.instanceMethod ({ cls := "ScaleInspection$Token", name := "isEnd", desc := "()Z" } : Jvm.MethodName)) ∈ lw_all := lw_g (lw_at lw_m3 133 rfl) rfl
theorem q699 : (Jvm.Cond.sameMethod "ScaleInspection$Token" "ScaleInspection$Token" "isEnd" "()Z") ∈ lw_all := lw_g (lw_at lw_m3 134 rfl) rfl
theorem q705 : (Jvm.Cond.code ({ cls := "ScaleInspection$Token", name := "isEnd", desc := "()Z" } : Jvm.MethodName) prog_16_method_6_code (1 : Nat) (Option.some Jvm.ClassFile.FieldType.boolean)) ∈ lw_all := lw_g (lw_at lw_m3 140 rfl) rfl
theorem q712 : (Jvm.Cond.instanceMethod ({ cls := "ScaleInspection$Token", name := "isWord", desc := "(Ljava/lang/String;)Z" } : Jvm.MethodName)) ∈ lw_all := lw_g (lw_at lw_m3 147 rfl) rfl
theorem q713 : (Jvm.Cond.sameMethod "ScaleInspection$Token" "ScaleInspection$Token" "isWord" "(Ljava/lang/String;)Z") ∈ lw_all := lw_g (lw_at lw_m3 148 rfl) rfl
theorem q727 : (Jvm.Cond.code ({ cls := "ScaleInspection$Token", name := "isWord", desc := "(Ljava/lang/String;)Z" } : Jvm.MethodName) prog_16_method_2_code (2 : Nat) (Option.some Jvm.ClassFile.FieldType.boolean)) ∈ lw_all := lw_g (lw_at lw_m3 162 rfl) rfl
theorem q782 : (Jvm.Cond.instanceMethod ({ cls := "ScaleInspection$Token", name := "isNumber", desc := "()Z" } : Jvm.MethodName)) ∈ lw_all := lw_g (lw_at lw_m3 217 rfl) rfl
theorem q783 : (Jvm.Cond.sameMethod "ScaleInspection$Token" "ScaleInspection$Token" "isNumber" "()Z") ∈ lw_all := lw_g (lw_at lw_m3 218 rfl) rfl
theorem q789 : (Jvm.Cond.code ({ cls := "ScaleInspection$Token", name := "isNumber", desc := "()Z" } : Jvm.MethodName) prog_16_method_3_code (1 : Nat) (Option.some Jvm.ClassFile.FieldType.boolean)) ∈ lw_all := lw_g (lw_at lw_m3 224 rfl) rfl
theorem q791 : (Jvm.Cond.instanceMethod ({ cls := "ScaleInspection$Token", name := "value", desc := "()I" } : Jvm.MethodName)) ∈ lw_all := lw_g (lw_at lw_m3 226 rfl) rfl
theorem q792 : (Jvm.Cond.sameMethod "ScaleInspection$Token" "ScaleInspection$Token" "value" "()I") ∈ lw_all := lw_g (lw_at lw_m3 227 rfl) rfl
theorem q798 : (Jvm.Cond.code ({ cls := "ScaleInspection$Token", name := "value", desc := "()I" } : Jvm.MethodName) prog_16_method_4_code (1 : Nat) (Option.some Jvm.ClassFile.FieldType.int)) ∈ lw_all := lw_g (lw_at lw_m3 233 rfl) rfl
theorem q931 : (Jvm.Cond.instanceMethod ({ cls := "ScaleInspection$Token", name := "isSemicolon", desc := "()Z" } : Jvm.MethodName)) ∈ lw_all := lw_g (lw_at lw_m4 126 rfl) rfl
theorem q932 : (Jvm.Cond.sameMethod "ScaleInspection$Token" "ScaleInspection$Token" "isSemicolon" "()Z") ∈ lw_all := lw_g (lw_at lw_m4 127 rfl) rfl
theorem q938 : (Jvm.Cond.code ({ cls := "ScaleInspection$Token", name := "isSemicolon", desc := "()Z" } : Jvm.MethodName) prog_16_method_5_code (1 : Nat) (Option.some Jvm.ClassFile.FieldType.boolean)) ∈ lw_all := lw_g (lw_at lw_m4 133 rfl) rfl


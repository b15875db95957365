set_option maxRecDepth 100000
/-! ScaleInspection$Sign -/
abbrev cX7_init : ByteArray := prog_14_method_1_code
def yX7_init : MethodName := ⟨RX7, "<init>", "(III)V"⟩
def dkwX7_init_0 : List UInt8 := [42, 27, 28, 183, 0, 1, 42, 29, 181, 0, 7, 177]
abbrev dktX7_init_0 : List UInt8 := dkwX7_init_0 ++ []
theorem dksX7_init_0 : cX7_init.data.toList.drop 0 = dktX7_init_0 := by decide +kernel
theorem dX7_init_0 : decode cX7_init 0 = .ok (.aload_n 0, 1) := dk_42 (dk_at dksX7_init_0 0 rfl rfl)
theorem dX7_init_1 : decode cX7_init 1 = .ok (.iload_n 1, 1) := dk_27 (dk_at dksX7_init_0 1 rfl rfl)
theorem dX7_init_2 : decode cX7_init 2 = .ok (.iload_n 2, 1) := dk_28 (dk_at dksX7_init_0 2 rfl rfl)
theorem dX7_init_3 : decode cX7_init 3 = .ok (.invokespecial 1, 3) := dk_183 0 1 (dk_at dksX7_init_0 3 rfl rfl)
theorem dX7_init_6 : decode cX7_init 6 = .ok (.aload_n 0, 1) := dk_42 (dk_at dksX7_init_0 6 rfl rfl)
theorem dX7_init_7 : decode cX7_init 7 = .ok (.iload_n 3, 1) := dk_29 (dk_at dksX7_init_0 7 rfl rfl)
theorem dX7_init_8 : decode cX7_init 8 = .ok (.putfield 7, 3) := dk_181 0 7 (dk_at dksX7_init_0 8 rfl rfl)
theorem dX7_init_11 : decode cX7_init 11 = .ok (.return_, 1) := dk_177 (dk_at dksX7_init_0 11 rfl rfl)
abbrev cX7_isEnd : ByteArray := prog_14_method_3_code
def yX7_isEnd : MethodName := ⟨RX7, "isEnd", "()Z"⟩
def dkwX7_isEnd_0 : List UInt8 := [42, 180, 0, 7, 2, 160, 0, 7, 4, 167, 0, 4, 3, 172]
abbrev dktX7_isEnd_0 : List UInt8 := dkwX7_isEnd_0 ++ []
theorem dksX7_isEnd_0 : cX7_isEnd.data.toList.drop 0 = dktX7_isEnd_0 := by decide +kernel
theorem dX7_isEnd_0 : decode cX7_isEnd 0 = .ok (.aload_n 0, 1) := dk_42 (dk_at dksX7_isEnd_0 0 rfl rfl)
theorem dX7_isEnd_1 : decode cX7_isEnd 1 = .ok (.getfield 7, 3) := dk_180 0 7 (dk_at dksX7_isEnd_0 1 rfl rfl)
theorem dX7_isEnd_4 : decode cX7_isEnd 4 = .ok (.iconst (-1), 1) := dk_2 (dk_at dksX7_isEnd_0 4 rfl rfl)
theorem dX7_isEnd_5 : decode cX7_isEnd 5 = .ok (.if_icmp .ne 7, 3) := dk_160 0 7 (dk_at dksX7_isEnd_0 5 rfl rfl)
theorem dX7_isEnd_8 : decode cX7_isEnd 8 = .ok (.iconst 1, 1) := dk_4 (dk_at dksX7_isEnd_0 8 rfl rfl)
theorem dX7_isEnd_9 : decode cX7_isEnd 9 = .ok (.goto 4, 3) := dk_167 0 4 (dk_at dksX7_isEnd_0 9 rfl rfl)
theorem dX7_isEnd_12 : decode cX7_isEnd 12 = .ok (.iconst 0, 1) := dk_3 (dk_at dksX7_isEnd_0 12 rfl rfl)
theorem dX7_isEnd_13 : decode cX7_isEnd 13 = .ok (.ireturn, 1) := dk_172 (dk_at dksX7_isEnd_0 13 rfl rfl)
abbrev cX7_isSemicolon : ByteArray := prog_14_method_2_code
def yX7_isSemicolon : MethodName := ⟨RX7, "isSemicolon", "()Z"⟩
def dkwX7_isSemicolon_0 : List UInt8 := [42, 180, 0, 7, 16, 59, 160, 0, 7, 4, 167, 0, 4, 3, 172]
abbrev dktX7_isSemicolon_0 : List UInt8 := dkwX7_isSemicolon_0 ++ []
theorem dksX7_isSemicolon_0 : cX7_isSemicolon.data.toList.drop 0 = dktX7_isSemicolon_0 := by decide +kernel
theorem dX7_isSemicolon_0 : decode cX7_isSemicolon 0 = .ok (.aload_n 0, 1) := dk_42 (dk_at dksX7_isSemicolon_0 0 rfl rfl)
theorem dX7_isSemicolon_1 : decode cX7_isSemicolon 1 = .ok (.getfield 7, 3) := dk_180 0 7 (dk_at dksX7_isSemicolon_0 1 rfl rfl)
theorem dX7_isSemicolon_4 : decode cX7_isSemicolon 4 = .ok (.bipush 59, 2) := dk_16 59 (dk_at dksX7_isSemicolon_0 4 rfl rfl)
theorem dX7_isSemicolon_6 : decode cX7_isSemicolon 6 = .ok (.if_icmp .ne 7, 3) := dk_160 0 7 (dk_at dksX7_isSemicolon_0 6 rfl rfl)
theorem dX7_isSemicolon_9 : decode cX7_isSemicolon 9 = .ok (.iconst 1, 1) := dk_4 (dk_at dksX7_isSemicolon_0 9 rfl rfl)
theorem dX7_isSemicolon_10 : decode cX7_isSemicolon 10 = .ok (.goto 4, 3) := dk_167 0 4 (dk_at dksX7_isSemicolon_0 10 rfl rfl)
theorem dX7_isSemicolon_13 : decode cX7_isSemicolon 13 = .ok (.iconst 0, 1) := dk_3 (dk_at dksX7_isSemicolon_0 13 rfl rfl)
theorem dX7_isSemicolon_14 : decode cX7_isSemicolon 14 = .ok (.ireturn, 1) := dk_172 (dk_at dksX7_isSemicolon_0 14 rfl rfl)
theorem q110 : (Jvm.Cond.initialized "ScaleInspection$Sign") ∈ lw_all := lw_g (lw_at lw_m1 25 rfl) rfl
theorem q630 : (Jvm.Cond.instantiable "ScaleInspection$Sign" (3 : Nat)) ∈ lw_all := lw_g (lw_at lw_m3 65 rfl) rfl
theorem q632 : (Jvm.Cond.instanceMethod ({ cls := "ScaleInspection$Sign", name := "<init>", desc := "(III)V" } : Jvm.MethodName)) ∈ lw_all := lw_g (lw_at lw_m3 67 rfl) rfl
theorem q633 : (Jvm.Cond.code ({ cls := "ScaleInspection$Sign", name := "<init>", desc := "(III)V" } : Jvm.MethodName) prog_14_method_1_code (4 : Nat) (Option.none : Option Jvm.ClassFile.FieldType)) ∈ lw_all := lw_g (lw_at lw_m3 68 rfl) rfl
theorem q634 : (Jvm.Cond.methodLink "ScaleInspection$Sign" (1 : Nat) ({ cls := "ScaleInspection$Token", name := "<init>", desc := "(II)V" } : Jvm.MethodName)) ∈ lw_all := lw_g (lw_at lw_m3 69 rfl) rfl
theorem q638 : (Jvm.Cond.fieldLink "ScaleInspection$Sign" (7 : Nat) "ScaleInspection$Sign" "kind" "I") ∈ lw_all := lw_g (lw_at lw_m3 73 rfl) rfl
theorem q643 : (Jvm.Cond.laysFinal "ScaleInspection$Sign" "ScaleInspection$Sign" "kind" "I") ∈ lw_all := lw_g (lw_at lw_m3 78 rfl) rfl
theorem q644 : (Jvm.Cond.soleField "ScaleInspection$Sign" "kind") ∈ lw_all := lw_g (lw_at lw_m3 79 rfl) rfl
theorem q645 : (Jvm.Cond.laysFinal "ScaleInspection$Sign" "ScaleInspection$Token" "position" "I") ∈ lw_all := lw_g (lw_at lw_m3 80 rfl) rfl
theorem q647 : (Jvm.Cond.laysFinal "ScaleInspection$Sign" "ScaleInspection$Token" "next" "I") ∈ lw_all := lw_g (lw_at lw_m3 82 rfl) rfl
theorem q649 : (Jvm.Cond.superclass "ScaleInspection$Sign" "ScaleInspection$Token") ∈ lw_all := lw_g (lw_at lw_m3 84 rfl) rfl
theorem q701 : (Jvm.Cond.selects "ScaleInspection$Sign" ({ cls := "ScaleInspection$Token", name := "isEnd", desc := "()Z" } : Jvm.MethodName) ({ cls := "ScaleInspection$Sign", name := "isEnd", desc := "()Z" } : Jvm.MethodName)) ∈ lw_all := lw_g (lw_at lw_m3 136 rfl) rfl
theorem q702 : (Jvm.Cond.instanceMethod ({ cls := "ScaleInspection$Sign", name := "isEnd", desc := "()Z" } : Jvm.MethodName)) ∈ lw_all := lw_g (lw_at lw_m3 137 rfl) rfl
theorem q703 : (Jvm.Cond.code ({ cls := "ScaleInspection$Sign", name := "isEnd", desc := "()Z" } : Jvm.MethodName) prog_14_method_3_code (1 : Nat) (Option.some Jvm.ClassFile.FieldType.boolean)) ∈ lw_all := lw_g (lw_at lw_m3 138 rfl) rfl
theorem q715 : (Jvm.Cond.selects "ScaleInspection$Sign" ({ cls := "ScaleInspection$Token", name := "isWord", desc := "(Ljava/lang/String;)Z" } : Jvm.MethodName) ({ cls := "ScaleInspection$Token", name := "isWord", desc := "(Ljava/lang/String;)Z" } : Jvm.MethodName)) ∈ lw_all := lw_g (lw_at lw_m3 150 rfl) rfl
theorem q787 : (Jvm.Cond.selects "ScaleInspection$Sign" ({ cls := "ScaleInspection$Token", name := "isNumber", desc := "()Z" } : Jvm.MethodName) ({ cls := "ScaleInspection$Token", name := "isNumber", desc := "()Z" } : Jvm.MethodName)) ∈ lw_all := lw_g (lw_at lw_m3 222 rfl) rfl
theorem q796 : (Jvm.Cond.selects "ScaleInspection$Sign" ({ cls := "ScaleInspection$Token", name := "value", desc := "()I" } : Jvm.MethodName) ({ cls := "ScaleInspection$Token", name := "value", desc := "()I" } : Jvm.MethodName)) ∈ lw_all := lw_g (lw_at lw_m3 231 rfl) rfl
theorem q873 : (Jvm.Cond.selects "ScaleInspection$Sign" ({ cls := "java/lang/Object", name := "getClass", desc := "()Ljava/lang/Class;" } : Jvm.MethodName) ({ cls := "java/lang/Object", name := "getClass", desc := "()Ljava/lang/Class;" } : Jvm.MethodName)) ∈ lw_all := lw_g (lw_at lw_m4 68 rfl) rfl
theorem q934 : (Jvm.Cond.selects "ScaleInspection$Sign" ({ cls := "ScaleInspection$Token", name := "isSemicolon", desc := "()Z" } : Jvm.MethodName) ({ cls := "ScaleInspection$Sign", name := "isSemicolon", desc := "()Z" } : Jvm.MethodName)) ∈ lw_all := lw_g (lw_at lw_m4 129 rfl) rfl
theorem q935 : (Jvm.Cond.instanceMethod ({ cls := "ScaleInspection$Sign", name := "isSemicolon", desc := "()Z" } : Jvm.MethodName)) ∈ lw_all := lw_g (lw_at lw_m4 130 rfl) rfl
theorem q936 : (Jvm.Cond.code ({ cls := "ScaleInspection$Sign", name := "isSemicolon", desc := "()Z" } : Jvm.MethodName) prog_14_method_2_code (1 : Nat) (Option.some Jvm.ClassFile.FieldType.boolean)) ∈ lw_all := lw_g (lw_at lw_m4 131 rfl) rfl
theorem q2213 : (Jvm.Cond.castable "ScaleInspection$Sign" "java/lang/Object") ∈ lw_tbl := lw_at lw_m9 208 rfl


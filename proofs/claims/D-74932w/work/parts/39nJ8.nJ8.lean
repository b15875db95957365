set_option maxRecDepth 100000
/-! java/lang/StringBuilder -/
abbrev cJ8_init : ByteArray := prog_36_method_1_code
def yJ8_init : MethodName := ⟨RJ8, "<init>", "()V"⟩
def dkwJ8_init_0 : List UInt8 := [42, 16, 16, 183, 0, 1, 177]
abbrev dktJ8_init_0 : List UInt8 := dkwJ8_init_0 ++ []
theorem dksJ8_init_0 : cJ8_init.data.toList.drop 0 = dktJ8_init_0 := by decide +kernel
theorem dJ8_init_0 : decode cJ8_init 0 = .ok (.aload_n 0, 1) := dk_42 (dk_at dksJ8_init_0 0 rfl rfl)
theorem dJ8_init_1 : decode cJ8_init 1 = .ok (.bipush 16, 2) := dk_16 16 (dk_at dksJ8_init_0 1 rfl rfl)
theorem dJ8_init_3 : decode cJ8_init 3 = .ok (.invokespecial 1, 3) := dk_183 0 1 (dk_at dksJ8_init_0 3 rfl rfl)
theorem dJ8_init_6 : decode cJ8_init 6 = .ok (.return_, 1) := dk_177 (dk_at dksJ8_init_0 6 rfl rfl)
abbrev cJ8_append : ByteArray := prog_36_method_7_code
def yJ8_append : MethodName := ⟨RJ8, "append", "(Ljava/lang/String;)Ljava/lang/StringBuilder;"⟩
def dkwJ8_append_0 : List UInt8 := [42, 43, 183, 0, 29, 87, 42, 176]
abbrev dktJ8_append_0 : List UInt8 := dkwJ8_append_0 ++ []
theorem dksJ8_append_0 : cJ8_append.data.toList.drop 0 = dktJ8_append_0 := by decide +kernel
theorem dJ8_append_0 : decode cJ8_append 0 = .ok (.aload_n 0, 1) := dk_42 (dk_at dksJ8_append_0 0 rfl rfl)
theorem dJ8_append_1 : decode cJ8_append 1 = .ok (.aload_n 1, 1) := dk_43 (dk_at dksJ8_append_0 1 rfl rfl)
theorem dJ8_append_2 : decode cJ8_append 2 = .ok (.invokespecial 29, 3) := dk_183 0 29 (dk_at dksJ8_append_0 2 rfl rfl)
theorem dJ8_append_5 : decode cJ8_append 5 = .ok (.pop, 1) := dk_87 (dk_at dksJ8_append_0 5 rfl rfl)
theorem dJ8_append_6 : decode cJ8_append 6 = .ok (.aload_n 0, 1) := dk_42 (dk_at dksJ8_append_0 6 rfl rfl)
theorem dJ8_append_7 : decode cJ8_append 7 = .ok (.areturn, 1) := dk_176 (dk_at dksJ8_append_0 7 rfl rfl)
abbrev cJ8_append_2 : ByteArray := prog_36_method_15_code
def yJ8_append_2 : MethodName := ⟨RJ8, "append", "(I)Ljava/lang/StringBuilder;"⟩
def dkwJ8_append_2_0 : List UInt8 := [42, 27, 183, 0, 53, 87, 42, 176]
abbrev dktJ8_append_2_0 : List UInt8 := dkwJ8_append_2_0 ++ []
theorem dksJ8_append_2_0 : cJ8_append_2.data.toList.drop 0 = dktJ8_append_2_0 := by decide +kernel
theorem dJ8_append_2_0 : decode cJ8_append_2 0 = .ok (.aload_n 0, 1) := dk_42 (dk_at dksJ8_append_2_0 0 rfl rfl)
theorem dJ8_append_2_1 : decode cJ8_append_2 1 = .ok (.iload_n 1, 1) := dk_27 (dk_at dksJ8_append_2_0 1 rfl rfl)
theorem dJ8_append_2_2 : decode cJ8_append_2 2 = .ok (.invokespecial 53, 3) := dk_183 0 53 (dk_at dksJ8_append_2_0 2 rfl rfl)
theorem dJ8_append_2_5 : decode cJ8_append_2 5 = .ok (.pop, 1) := dk_87 (dk_at dksJ8_append_2_0 5 rfl rfl)
theorem dJ8_append_2_6 : decode cJ8_append_2 6 = .ok (.aload_n 0, 1) := dk_42 (dk_at dksJ8_append_2_0 6 rfl rfl)
theorem dJ8_append_2_7 : decode cJ8_append_2 7 = .ok (.areturn, 1) := dk_176 (dk_at dksJ8_append_2_0 7 rfl rfl)
abbrev cJ8_toString : ByteArray := prog_36_method_42_code
def yJ8_toString : MethodName := ⟨RJ8, "toString", "()Ljava/lang/String;"⟩
def dkwJ8_toString_0 : List UInt8 := [187, 0, 18, 89, 42, 183, 0, 137, 176]
abbrev dktJ8_toString_0 : List UInt8 := dkwJ8_toString_0 ++ []
theorem dksJ8_toString_0 : cJ8_toString.data.toList.drop 0 = dktJ8_toString_0 := by decide +kernel
theorem dJ8_toString_0 : decode cJ8_toString 0 = .ok (.new 18, 3) := dk_187 0 18 (dk_at dksJ8_toString_0 0 rfl rfl)
theorem dJ8_toString_3 : decode cJ8_toString 3 = .ok (.dup, 1) := dk_89 (dk_at dksJ8_toString_0 3 rfl rfl)
theorem dJ8_toString_4 : decode cJ8_toString 4 = .ok (.aload_n 0, 1) := dk_42 (dk_at dksJ8_toString_0 4 rfl rfl)
theorem dJ8_toString_5 : decode cJ8_toString 5 = .ok (.invokespecial 137, 3) := dk_183 0 137 (dk_at dksJ8_toString_0 5 rfl rfl)
theorem dJ8_toString_8 : decode cJ8_toString 8 = .ok (.areturn, 1) := dk_176 (dk_at dksJ8_toString_0 8 rfl rfl)
abbrev cJ8_length : ByteArray := prog_36_method_93_code
def yJ8_length : MethodName := ⟨RJ8, "length", "()I"⟩
theorem dJ8_length_0 : decode cJ8_length 0 = .ok (.aload_n 0, 1) := by decide +kernel
theorem dJ8_length_1 : decode cJ8_length 1 = .ok (.invokespecial 343, 3) := by decide +kernel
theorem dJ8_length_4 : decode cJ8_length 4 = .ok (.ireturn, 1) := by decide +kernel
abbrev cJ8_init_2 : ByteArray := prog_36_method_2_code
def yJ8_init_2 : MethodName := ⟨RJ8, "<init>", "(I)V"⟩
def dkwJ8_init_2_0 : List UInt8 := [42, 27, 183, 0, 1, 177]
abbrev dktJ8_init_2_0 : List UInt8 := dkwJ8_init_2_0 ++ []
theorem dksJ8_init_2_0 : cJ8_init_2.data.toList.drop 0 = dktJ8_init_2_0 := by decide +kernel
theorem dJ8_init_2_0 : decode cJ8_init_2 0 = .ok (.aload_n 0, 1) := dk_42 (dk_at dksJ8_init_2_0 0 rfl rfl)
theorem dJ8_init_2_1 : decode cJ8_init_2 1 = .ok (.iload_n 1, 1) := dk_27 (dk_at dksJ8_init_2_0 1 rfl rfl)
theorem dJ8_init_2_2 : decode cJ8_init_2 2 = .ok (.invokespecial 1, 3) := dk_183 0 1 (dk_at dksJ8_init_2_0 2 rfl rfl)
theorem dJ8_init_2_5 : decode cJ8_init_2 5 = .ok (.return_, 1) := dk_177 (dk_at dksJ8_init_2_0 5 rfl rfl)
abbrev cJ8_append_3 : ByteArray := prog_36_method_14_code
def yJ8_append_3 : MethodName := ⟨RJ8, "append", "(C)Ljava/lang/StringBuilder;"⟩
def dkwJ8_append_3_0 : List UInt8 := [42, 27, 183, 0, 50, 87, 42, 176]
abbrev dktJ8_append_3_0 : List UInt8 := dkwJ8_append_3_0 ++ []
theorem dksJ8_append_3_0 : cJ8_append_3.data.toList.drop 0 = dktJ8_append_3_0 := by decide +kernel
theorem dJ8_append_3_0 : decode cJ8_append_3 0 = .ok (.aload_n 0, 1) := dk_42 (dk_at dksJ8_append_3_0 0 rfl rfl)
theorem dJ8_append_3_1 : decode cJ8_append_3 1 = .ok (.iload_n 1, 1) := dk_27 (dk_at dksJ8_append_3_0 1 rfl rfl)
theorem dJ8_append_3_2 : decode cJ8_append_3 2 = .ok (.invokespecial 50, 3) := dk_183 0 50 (dk_at dksJ8_append_3_0 2 rfl rfl)
theorem dJ8_append_3_5 : decode cJ8_append_3 5 = .ok (.pop, 1) := dk_87 (dk_at dksJ8_append_3_0 5 rfl rfl)
theorem dJ8_append_3_6 : decode cJ8_append_3 6 = .ok (.aload_n 0, 1) := dk_42 (dk_at dksJ8_append_3_0 6 rfl rfl)
theorem dJ8_append_3_7 : decode cJ8_append_3 7 = .ok (.areturn, 1) := dk_176 (dk_at dksJ8_append_3_0 7 rfl rfl)
theorem q96 : (Jvm.Cond.initialized "java/lang/StringBuilder") ∈ lw_all := lw_g (lw_at lw_m1 11 rfl) rfl
theorem q200 : (Jvm.Cond.instantiable "java/lang/StringBuilder" (4 : Nat)) ∈ lw_all := lw_g (lw_at lw_m1 115 rfl) rfl
theorem q202 : (Jvm.Cond.instanceMethod ({ cls := "java/lang/StringBuilder", name := "<init>", desc := "()V" } : Jvm.MethodName)) ∈ lw_all := lw_g (lw_at lw_m1 117 rfl) rfl
theorem q203 : (Jvm.Cond.code ({ cls := "java/lang/StringBuilder", name := "<init>", desc := "()V" } : Jvm.MethodName) prog_36_method_1_code (1 : Nat) (Option.none : Option Jvm.ClassFile.FieldType)) ∈ lw_all := lw_g (lw_at lw_m1 118 rfl) rfl
theorem q204 : (Jvm.Cond.methodLink "java/lang/StringBuilder" (1 : Nat) ({ cls := "java/lang/AbstractStringBuilder", name := "<init>", desc := "(I)V" } : Jvm.MethodName)) ∈ lw_all := lw_g (lw_at lw_m1 119 rfl) rfl
theorem q221 : (Jvm.Cond.lays "java/lang/StringBuilder" "java/lang/AbstractStringBuilder" "value" "[B") ∈ lw_all := lw_g (lw_at lw_m1 136 rfl) rfl
theorem q223 : (Jvm.Cond.lays "java/lang/StringBuilder" "java/lang/AbstractStringBuilder" "coder" "B") ∈ lw_all := lw_g (lw_at lw_m1 138 rfl) rfl
theorem q225 : (Jvm.Cond.lays "java/lang/StringBuilder" "java/lang/AbstractStringBuilder" "maybeLatin1" "Z") ∈ lw_all := lw_g (lw_at lw_m1 140 rfl) rfl
theorem q227 : (Jvm.Cond.lays "java/lang/StringBuilder" "java/lang/AbstractStringBuilder" "count" "I") ∈ lw_all := lw_g (lw_at lw_m1 142 rfl) rfl
theorem q229 : (Jvm.Cond.superclass "java/lang/StringBuilder" "java/lang/AbstractStringBuilder") ∈ lw_all := lw_g (lw_at lw_m1 144 rfl) rfl
theorem q233 : (Jvm.Cond.instanceMethod ({ cls := "java/lang/StringBuilder", name := "append", desc := "(Ljava/lang/String;)Ljava/lang/StringBuilder;" } : Jvm.MethodName)) ∈ lw_all := lw_g (lw_at lw_m1 148 rfl) rfl
theorem q234 : (Jvm.Cond.selects "java/lang/StringBuilder" ({ cls := "java/lang/StringBuilder", name := "append", desc := "(Ljava/lang/String;)Ljava/lang/StringBuilder;" } : Jvm.MethodName) ({ cls := "java/lang/StringBuilder", name := "append", desc := "(Ljava/lang/String;)Ljava/lang/StringBuilder;" } : Jvm.MethodName)) ∈ lw_all := lw_g (lw_at lw_m1 149 rfl) rfl
theorem q235 : (Jvm.Cond.code ({ cls := "java/lang/StringBuilder", name := "append", desc := "(Ljava/lang/String;)Ljava/lang/StringBuilder;" } : Jvm.MethodName) prog_36_method_7_code (2 : Nat) (Option.some (Jvm.ClassFile.FieldType.object "java/lang/StringBuilder"))) ∈ lw_all := lw_g (lw_at lw_m1 150 rfl) rfl
theorem q236 : (Jvm.Cond.methodLink "java/lang/StringBuilder" (29 : Nat) ({ cls := "java/lang/AbstractStringBuilder", name := "append", desc := "(Ljava/lang/String;)Ljava/lang/AbstractStringBuilder;" } : Jvm.MethodName)) ∈ lw_all := lw_g (lw_at lw_m1 151 rfl) rfl
theorem q281 : (Jvm.Cond.selects "java/lang/StringBuilder" ({ cls := "java/lang/AbstractStringBuilder", name := "isLatin1", desc := "()Z" } : Jvm.MethodName) ({ cls := "java/lang/AbstractStringBuilder", name := "isLatin1", desc := "()Z" } : Jvm.MethodName)) ∈ lw_all := lw_g (lw_at lw_m1 196 rfl) rfl
theorem q353 : (Jvm.Cond.instanceMethod ({ cls := "java/lang/StringBuilder", name := "append", desc := "(I)Ljava/lang/StringBuilder;" } : Jvm.MethodName)) ∈ lw_all := lw_g (lw_at lw_m2 28 rfl) rfl
theorem q354 : (Jvm.Cond.selects "java/lang/StringBuilder" ({ cls := "java/lang/StringBuilder", name := "append", desc := "(I)Ljava/lang/StringBuilder;" } : Jvm.MethodName) ({ cls := "java/lang/StringBuilder", name := "append", desc := "(I)Ljava/lang/StringBuilder;" } : Jvm.MethodName)) ∈ lw_all := lw_g (lw_at lw_m2 29 rfl) rfl
theorem q355 : (Jvm.Cond.code ({ cls := "java/lang/StringBuilder", name := "append", desc := "(I)Ljava/lang/StringBuilder;" } : Jvm.MethodName) prog_36_method_15_code (2 : Nat) (Option.some (Jvm.ClassFile.FieldType.object "java/lang/StringBuilder"))) ∈ lw_all := lw_g (lw_at lw_m2 30 rfl) rfl
theorem q356 : (Jvm.Cond.methodLink "java/lang/StringBuilder" (53 : Nat) ({ cls := "java/lang/AbstractStringBuilder", name := "append", desc := "(I)Ljava/lang/AbstractStringBuilder;" } : Jvm.MethodName)) ∈ lw_all := lw_g (lw_at lw_m2 31 rfl) rfl
theorem q378 : (Jvm.Cond.instanceMethod ({ cls := "java/lang/StringBuilder", name := "toString", desc := "()Ljava/lang/String;" } : Jvm.MethodName)) ∈ lw_all := lw_g (lw_at lw_m2 53 rfl) rfl
theorem q379 : (Jvm.Cond.selects "java/lang/StringBuilder" ({ cls := "java/lang/StringBuilder", name := "toString", desc := "()Ljava/lang/String;" } : Jvm.MethodName) ({ cls := "java/lang/StringBuilder", name := "toString", desc := "()Ljava/lang/String;" } : Jvm.MethodName)) ∈ lw_all := lw_g (lw_at lw_m2 54 rfl) rfl
theorem q380 : (Jvm.Cond.code ({ cls := "java/lang/StringBuilder", name := "toString", desc := "()Ljava/lang/String;" } : Jvm.MethodName) prog_36_method_42_code (1 : Nat) (Option.some (Jvm.ClassFile.FieldType.object "java/lang/String"))) ∈ lw_all := lw_g (lw_at lw_m2 55 rfl) rfl
theorem q381 : (Jvm.Cond.classLink "java/lang/StringBuilder" (18 : Nat) "java/lang/String") ∈ lw_all := lw_g (lw_at lw_m2 56 rfl) rfl
theorem q383 : (Jvm.Cond.methodLink "java/lang/StringBuilder" (137 : Nat) ({ cls := "java/lang/String", name := "<init>", desc := "(Ljava/lang/StringBuilder;)V" } : Jvm.MethodName)) ∈ lw_all := lw_g (lw_at lw_m2 58 rfl) rfl
theorem q393 : (Jvm.Cond.selects "java/lang/StringBuilder" ({ cls := "java/lang/AbstractStringBuilder", name := "getValue", desc := "()[B" } : Jvm.MethodName) ({ cls := "java/lang/AbstractStringBuilder", name := "getValue", desc := "()[B" } : Jvm.MethodName)) ∈ lw_all := lw_g (lw_at lw_m2 68 rfl) rfl
theorem q398 : (Jvm.Cond.selects "java/lang/StringBuilder" ({ cls := "java/lang/AbstractStringBuilder", name := "length", desc := "()I" } : Jvm.MethodName) ({ cls := "java/lang/StringBuilder", name := "length", desc := "()I" } : Jvm.MethodName)) ∈ lw_all := lw_g (lw_at lw_m2 73 rfl) rfl
theorem q399 : (Jvm.Cond.instanceMethod ({ cls := "java/lang/StringBuilder", name := "length", desc := "()I" } : Jvm.MethodName)) ∈ lw_all := lw_g (lw_at lw_m2 74 rfl) rfl
theorem q400 : (Jvm.Cond.code ({ cls := "java/lang/StringBuilder", name := "length", desc := "()I" } : Jvm.MethodName) prog_36_method_93_code (1 : Nat) (Option.some Jvm.ClassFile.FieldType.int)) ∈ lw_all := lw_g (lw_at lw_m2 75 rfl) rfl
theorem q401 : (Jvm.Cond.methodLink "java/lang/StringBuilder" (343 : Nat) ({ cls := "java/lang/AbstractStringBuilder", name := "length", desc := "()I" } : Jvm.MethodName)) ∈ lw_all := lw_g (lw_at lw_m2 76 rfl) rfl
theorem q604 : (Jvm.Cond.instanceMethod ({ cls := "java/lang/StringBuilder", name := "<init>", desc := "(I)V" } : Jvm.MethodName)) ∈ lw_all := lw_g (lw_at lw_m3 39 rfl) rfl
theorem q605 : (Jvm.Cond.code ({ cls := "java/lang/StringBuilder", name := "<init>", desc := "(I)V" } : Jvm.MethodName) prog_36_method_2_code (2 : Nat) (Option.none : Option Jvm.ClassFile.FieldType)) ∈ lw_all := lw_g (lw_at lw_m3 40 rfl) rfl
theorem q608 : (Jvm.Cond.instanceMethod ({ cls := "java/lang/StringBuilder", name := "append", desc := "(C)Ljava/lang/StringBuilder;" } : Jvm.MethodName)) ∈ lw_all := lw_g (lw_at lw_m3 43 rfl) rfl
theorem q609 : (Jvm.Cond.selects "java/lang/StringBuilder" ({ cls := "java/lang/StringBuilder", name := "append", desc := "(C)Ljava/lang/StringBuilder;" } : Jvm.MethodName) ({ cls := "java/lang/StringBuilder", name := "append", desc := "(C)Ljava/lang/StringBuilder;" } : Jvm.MethodName)) ∈ lw_all := lw_g (lw_at lw_m3 44 rfl) rfl
theorem q610 : (Jvm.Cond.code ({ cls := "java/lang/StringBuilder", name := "append", desc := "(C)Ljava/lang/StringBuilder;" } : Jvm.MethodName) prog_36_method_14_code (2 : Nat) (Option.some (Jvm.ClassFile.FieldType.object "java/lang/StringBuilder"))) ∈ lw_all := lw_g (lw_at lw_m3 45 rfl) rfl
theorem q611 : (Jvm.Cond.methodLink "java/lang/StringBuilder" (50 : Nat) ({ cls := "java/lang/AbstractStringBuilder", name := "append", desc := "(C)Ljava/lang/AbstractStringBuilder;" } : Jvm.MethodName)) ∈ lw_all := lw_g (lw_at lw_m3 46 rfl) rfl
theorem q884 : (Jvm.Cond.selects "java/lang/StringBuilder" ({ cls := "java/lang/Object", name := "getClass", desc := "()Ljava/lang/Class;" } : Jvm.MethodName) ({ cls := "java/lang/Object", name := "getClass", desc := "()Ljava/lang/Class;" } : Jvm.MethodName)) ∈ lw_all := lw_g (lw_at lw_m4 79 rfl) rfl
theorem q2199 : (Jvm.Cond.selects "java/lang/StringBuilder" ({ cls := "java/lang/StringBuilder", name := "length", desc := "()I" } : Jvm.MethodName) ({ cls := "java/lang/StringBuilder", name := "length", desc := "()I" } : Jvm.MethodName)) ∈ lw_all := lw_g (lw_at lw_m9 194 rfl) rfl
theorem q2209 : (Jvm.Cond.castable "java/lang/StringBuilder" "java/lang/Object") ∈ lw_tbl := lw_at lw_m9 204 rfl


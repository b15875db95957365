set_option maxRecDepth 100000
/-! jdk/internal/util/ArraysSupport -/
abbrev cJ11_newLength : ByteArray := prog_50_method_27_code
def yJ11_newLength : MethodName := ⟨RJ11, "newLength", "(III)I"⟩
def dkwJ11_newLength_1 : List UInt8 := [184, 0, 201, 172]
abbrev dktJ11_newLength_1 : List UInt8 := dkwJ11_newLength_1 ++ []
def dkwJ11_newLength_0 : List UInt8 := [26, 27, 28, 184, 0, 194, 96, 62, 3, 29, 162, 0, 11, 29, 18, 200, 163, 0, 5, 29, 172, 26, 27]
abbrev dktJ11_newLength_0 : List UInt8 := dkwJ11_newLength_0 ++ dktJ11_newLength_1
theorem dksJ11_newLength_0 : cJ11_newLength.data.toList.drop 0 = dktJ11_newLength_0 := by decide +kernel
theorem dksJ11_newLength_1 : cJ11_newLength.data.toList.drop 23 = dktJ11_newLength_1 := dk_seg dksJ11_newLength_0 23 rfl rfl
theorem dJ11_newLength_0 : decode cJ11_newLength 0 = .ok (.iload_n 0, 1) := dk_26 (dk_at dksJ11_newLength_0 0 rfl rfl)
theorem dJ11_newLength_1 : decode cJ11_newLength 1 = .ok (.iload_n 1, 1) := dk_27 (dk_at dksJ11_newLength_0 1 rfl rfl)
theorem dJ11_newLength_2 : decode cJ11_newLength 2 = .ok (.iload_n 2, 1) := dk_28 (dk_at dksJ11_newLength_0 2 rfl rfl)
theorem dJ11_newLength_3 : decode cJ11_newLength 3 = .ok (.invokestatic 194, 3) := dk_184 0 194 (dk_at dksJ11_newLength_0 3 rfl rfl)
theorem dJ11_newLength_6 : decode cJ11_newLength 6 = .ok (.iadd, 1) := dk_96 (dk_at dksJ11_newLength_0 6 rfl rfl)
theorem dJ11_newLength_7 : decode cJ11_newLength 7 = .ok (.istore_n 3, 1) := dk_62 (dk_at dksJ11_newLength_0 7 rfl rfl)
theorem dJ11_newLength_8 : decode cJ11_newLength 8 = .ok (.iconst 0, 1) := dk_3 (dk_at dksJ11_newLength_0 8 rfl rfl)
theorem dJ11_newLength_9 : decode cJ11_newLength 9 = .ok (.iload_n 3, 1) := dk_29 (dk_at dksJ11_newLength_0 9 rfl rfl)
theorem dJ11_newLength_10 : decode cJ11_newLength 10 = .ok (.if_icmp .ge 11, 3) := dk_162 0 11 (dk_at dksJ11_newLength_0 10 rfl rfl)
theorem dJ11_newLength_13 : decode cJ11_newLength 13 = .ok (.iload_n 3, 1) := dk_29 (dk_at dksJ11_newLength_0 13 rfl rfl)
theorem dJ11_newLength_14 : decode cJ11_newLength 14 = .ok (.ldc 200, 2) := dk_18 200 (dk_at dksJ11_newLength_0 14 rfl rfl)
theorem dJ11_newLength_16 : decode cJ11_newLength 16 = .ok (.if_icmp .gt 5, 3) := dk_163 0 5 (dk_at dksJ11_newLength_0 16 rfl rfl)
theorem dJ11_newLength_19 : decode cJ11_newLength 19 = .ok (.iload_n 3, 1) := dk_29 (dk_at dksJ11_newLength_0 19 rfl rfl)
theorem dJ11_newLength_20 : decode cJ11_newLength 20 = .ok (.ireturn, 1) := dk_172 (dk_at dksJ11_newLength_0 20 rfl rfl)
theorem dJ11_newLength_21 : decode cJ11_newLength 21 = .ok (.iload_n 0, 1) := dk_26 (dk_at dksJ11_newLength_0 21 rfl rfl)
theorem dJ11_newLength_22 : decode cJ11_newLength 22 = .ok (.iload_n 1, 1) := dk_27 (dk_at dksJ11_newLength_0 22 rfl rfl)
theorem dJ11_newLength_23 : decode cJ11_newLength 23 = .ok (.invokestatic 201, 3) := dk_184 0 201 (dk_at dksJ11_newLength_1 0 rfl rfl)
theorem dJ11_newLength_26 : decode cJ11_newLength 26 = .ok (.ireturn, 1) := dk_172 (dk_at dksJ11_newLength_1 3 rfl rfl)
abbrev cJ11_hugeLength : ByteArray := prog_50_method_28_code
def yJ11_hugeLength : MethodName := ⟨RJ11, "hugeLength", "(II)I"⟩
def dkwJ11_hugeLength_2 : List UInt8 := [191, 28, 18, 200, 163, 0, 6, 18, 200, 172, 28, 172]
abbrev dktJ11_hugeLength_2 : List UInt8 := dkwJ11_hugeLength_2 ++ []
def dkwJ11_hugeLength_1 : List UInt8 := [26, 182, 0, 98, 18, 208, 182, 0, 94, 27, 182, 0, 98, 18, 210, 182, 0, 94, 182, 0, 101, 183, 0, 212]
abbrev dktJ11_hugeLength_1 : List UInt8 := dkwJ11_hugeLength_1 ++ dktJ11_hugeLength_2
def dkwJ11_hugeLength_0 : List UInt8 := [26, 27, 96, 61, 28, 156, 0, 44, 187, 0, 204, 89, 187, 0, 89, 89, 183, 0, 91, 18, 206, 182, 0, 94]
abbrev dktJ11_hugeLength_0 : List UInt8 := dkwJ11_hugeLength_0 ++ dktJ11_hugeLength_1
theorem dksJ11_hugeLength_0 : cJ11_hugeLength.data.toList.drop 0 = dktJ11_hugeLength_0 := by decide +kernel
theorem dksJ11_hugeLength_1 : cJ11_hugeLength.data.toList.drop 24 = dktJ11_hugeLength_1 := dk_seg dksJ11_hugeLength_0 24 rfl rfl
theorem dksJ11_hugeLength_2 : cJ11_hugeLength.data.toList.drop 48 = dktJ11_hugeLength_2 := dk_seg dksJ11_hugeLength_1 24 rfl rfl
theorem dJ11_hugeLength_0 : decode cJ11_hugeLength 0 = .ok (.iload_n 0, 1) := dk_26 (dk_at dksJ11_hugeLength_0 0 rfl rfl)
theorem dJ11_hugeLength_1 : decode cJ11_hugeLength 1 = .ok (.iload_n 1, 1) := dk_27 (dk_at dksJ11_hugeLength_0 1 rfl rfl)
theorem dJ11_hugeLength_2 : decode cJ11_hugeLength 2 = .ok (.iadd, 1) := dk_96 (dk_at dksJ11_hugeLength_0 2 rfl rfl)
theorem dJ11_hugeLength_3 : decode cJ11_hugeLength 3 = .ok (.istore_n 2, 1) := dk_61 (dk_at dksJ11_hugeLength_0 3 rfl rfl)
theorem dJ11_hugeLength_4 : decode cJ11_hugeLength 4 = .ok (.iload_n 2, 1) := dk_28 (dk_at dksJ11_hugeLength_0 4 rfl rfl)
theorem dJ11_hugeLength_5 : decode cJ11_hugeLength 5 = .ok (.ifCond .ge 44, 3) := dk_156 0 44 (dk_at dksJ11_hugeLength_0 5 rfl rfl)
theorem dJ11_hugeLength_8 : decode cJ11_hugeLength 8 = .ok (.new 204, 3) := dk_187 0 204 (dk_at dksJ11_hugeLength_0 8 rfl rfl)
theorem dJ11_hugeLength_11 : decode cJ11_hugeLength 11 = .ok (.dup, 1) := dk_89 (dk_at dksJ11_hugeLength_0 11 rfl rfl)
theorem dJ11_hugeLength_12 : decode cJ11_hugeLength 12 = .ok (.new 89, 3) := dk_187 0 89 (dk_at dksJ11_hugeLength_0 12 rfl rfl)
theorem dJ11_hugeLength_15 : decode cJ11_hugeLength 15 = .ok (.dup, 1) := dk_89 (dk_at dksJ11_hugeLength_0 15 rfl rfl)
theorem dJ11_hugeLength_16 : decode cJ11_hugeLength 16 = .ok (.invokespecial 91, 3) := dk_183 0 91 (dk_at dksJ11_hugeLength_0 16 rfl rfl)
theorem dJ11_hugeLength_19 : decode cJ11_hugeLength 19 = .ok (.ldc 206, 2) := dk_18 206 (dk_at dksJ11_hugeLength_0 19 rfl rfl)
theorem dJ11_hugeLength_21 : decode cJ11_hugeLength 21 = .ok (.invokevirtual 94, 3) := dk_182 0 94 (dk_at dksJ11_hugeLength_0 21 rfl rfl)
theorem dJ11_hugeLength_24 : decode cJ11_hugeLength 24 = .ok (.iload_n 0, 1) := dk_26 (dk_at dksJ11_hugeLength_1 0 rfl rfl)
theorem dJ11_hugeLength_25 : decode cJ11_hugeLength 25 = .ok (.invokevirtual 98, 3) := dk_182 0 98 (dk_at dksJ11_hugeLength_1 1 rfl rfl)
theorem dJ11_hugeLength_28 : decode cJ11_hugeLength 28 = .ok (.ldc 208, 2) := dk_18 208 (dk_at dksJ11_hugeLength_1 4 rfl rfl)
theorem dJ11_hugeLength_30 : decode cJ11_hugeLength 30 = .ok (.invokevirtual 94, 3) := dk_182 0 94 (dk_at dksJ11_hugeLength_1 6 rfl rfl)
theorem dJ11_hugeLength_33 : decode cJ11_hugeLength 33 = .ok (.iload_n 1, 1) := dk_27 (dk_at dksJ11_hugeLength_1 9 rfl rfl)
theorem dJ11_hugeLength_34 : decode cJ11_hugeLength 34 = .ok (.invokevirtual 98, 3) := dk_182 0 98 (dk_at dksJ11_hugeLength_1 10 rfl rfl)
theorem dJ11_hugeLength_37 : decode cJ11_hugeLength 37 = .ok (.ldc 210, 2) := dk_18 210 (dk_at dksJ11_hugeLength_1 13 rfl rfl)
theorem dJ11_hugeLength_39 : decode cJ11_hugeLength 39 = .ok (.invokevirtual 94, 3) := dk_182 0 94 (dk_at dksJ11_hugeLength_1 15 rfl rfl)
theorem dJ11_hugeLength_42 : decode cJ11_hugeLength 42 = .ok (.invokevirtual 101, 3) := dk_182 0 101 (dk_at dksJ11_hugeLength_1 18 rfl rfl)
theorem dJ11_hugeLength_45 : decode cJ11_hugeLength 45 = .ok (.invokespecial 212, 3) := dk_183 0 212 (dk_at dksJ11_hugeLength_1 21 rfl rfl)
theorem dJ11_hugeLength_48 : decode cJ11_hugeLength 48 = .ok (.athrow, 1) := dk_191 (dk_at dksJ11_hugeLength_2 0 rfl rfl)
theorem dJ11_hugeLength_49 : decode cJ11_hugeLength 49 = .ok (.iload_n 2, 1) := dk_28 (dk_at dksJ11_hugeLength_2 1 rfl rfl)
theorem dJ11_hugeLength_50 : decode cJ11_hugeLength 50 = .ok (.ldc 200, 2) := dk_18 200 (dk_at dksJ11_hugeLength_2 2 rfl rfl)
theorem dJ11_hugeLength_52 : decode cJ11_hugeLength 52 = .ok (.if_icmp .gt 6, 3) := dk_163 0 6 (dk_at dksJ11_hugeLength_2 4 rfl rfl)
theorem dJ11_hugeLength_55 : decode cJ11_hugeLength 55 = .ok (.ldc 200, 2) := dk_18 200 (dk_at dksJ11_hugeLength_2 7 rfl rfl)
theorem dJ11_hugeLength_57 : decode cJ11_hugeLength 57 = .ok (.ireturn, 1) := dk_172 (dk_at dksJ11_hugeLength_2 9 rfl rfl)
theorem dJ11_hugeLength_58 : decode cJ11_hugeLength 58 = .ok (.iload_n 2, 1) := dk_28 (dk_at dksJ11_hugeLength_2 10 rfl rfl)
theorem dJ11_hugeLength_59 : decode cJ11_hugeLength 59 = .ok (.ireturn, 1) := dk_172 (dk_at dksJ11_hugeLength_2 11 rfl rfl)
theorem q99 : (Jvm.Cond.initialized "jdk/internal/util/ArraysSupport") ∈ lw_all := lw_g (lw_at lw_m1 14 rfl) rfl
theorem q252 : (Jvm.Cond.static ({ cls := "jdk/internal/util/ArraysSupport", name := "newLength", desc := "(III)I" } : Jvm.MethodName)) ∈ lw_all := lw_g (lw_at lw_m1 167 rfl) rfl
theorem q253 : (Jvm.Cond.code ({ cls := "jdk/internal/util/ArraysSupport", name := "newLength", desc := "(III)I" } : Jvm.MethodName) prog_50_method_27_code (4 : Nat) (Option.some Jvm.ClassFile.FieldType.int)) ∈ lw_all := lw_g (lw_at lw_m1 168 rfl) rfl
theorem q254 : (Jvm.Cond.methodLink "jdk/internal/util/ArraysSupport" (194 : Nat) ({ cls := "java/lang/Math", name := "max", desc := "(II)I" } : Jvm.MethodName)) ∈ lw_all := lw_g (lw_at lw_m1 169 rfl) rfl
theorem q257 : (Jvm.Cond.constant "jdk/internal/util/ArraysSupport" (200 : Nat) (2147483639 : Int32)) ∈ lw_all := lw_g (lw_at lw_m1 172 rfl) rfl
theorem q258 : (Jvm.Cond.methodLink "jdk/internal/util/ArraysSupport" (201 : Nat) ({ cls := "jdk/internal/util/ArraysSupport", name := "hugeLength", desc := "(II)I" } : Jvm.MethodName)) ∈ lw_all := lw_g (lw_at lw_m1 173 rfl) rfl
theorem q259 : (Jvm.Cond.static ({ cls := "jdk/internal/util/ArraysSupport", name := "hugeLength", desc := "(II)I" } : Jvm.MethodName)) ∈ lw_all := lw_g (lw_at lw_m1 174 rfl) rfl
theorem q260 : (Jvm.Cond.code ({ cls := "jdk/internal/util/ArraysSupport", name := "hugeLength", desc := "(II)I" } : Jvm.MethodName) prog_50_method_28_code (3 : Nat) (Option.some Jvm.ClassFile.FieldType.int)) ∈ lw_all := lw_g (lw_at lw_m1 175 rfl) rfl


set_option maxRecDepth 100000
/-! java/util/Objects -/
abbrev cJ17_checkIndex : ByteArray := prog_47_method_17_code
def yJ17_checkIndex : MethodName := ⟨RJ17, "checkIndex", "(II)I"⟩
def dkwJ17_checkIndex_0 : List UInt8 := [26, 27, 1, 184, 0, 105, 172]
abbrev dktJ17_checkIndex_0 : List UInt8 := dkwJ17_checkIndex_0 ++ []
theorem dksJ17_checkIndex_0 : cJ17_checkIndex.data.toList.drop 0 = dktJ17_checkIndex_0 := by decide +kernel
theorem dJ17_checkIndex_0 : decode cJ17_checkIndex 0 = .ok (.iload_n 0, 1) := dk_26 (dk_at dksJ17_checkIndex_0 0 rfl rfl)
theorem dJ17_checkIndex_1 : decode cJ17_checkIndex 1 = .ok (.iload_n 1, 1) := dk_27 (dk_at dksJ17_checkIndex_0 1 rfl rfl)
theorem dJ17_checkIndex_2 : decode cJ17_checkIndex 2 = .ok (.aconst_null, 1) := dk_1 (dk_at dksJ17_checkIndex_0 2 rfl rfl)
theorem dJ17_checkIndex_3 : decode cJ17_checkIndex 3 = .ok (.invokestatic 105, 3) := dk_184 0 105 (dk_at dksJ17_checkIndex_0 3 rfl rfl)
theorem dJ17_checkIndex_6 : decode cJ17_checkIndex 6 = .ok (.ireturn, 1) := dk_172 (dk_at dksJ17_checkIndex_0 6 rfl rfl)
theorem q118 : (Jvm.Cond.initialized "java/util/Objects") ∈ lw_all := lw_g (lw_at lw_m1 33 rfl) rfl
theorem q945 : (Jvm.Cond.static ({ cls := "java/util/Objects", name := "checkIndex", desc := "(II)I" } : Jvm.MethodName)) ∈ lw_all := lw_g (lw_at lw_m4 140 rfl) rfl
theorem q946 : (Jvm.Cond.code ({ cls := "java/util/Objects", name := "checkIndex", desc := "(II)I" } : Jvm.MethodName) prog_47_method_17_code (2 : Nat) (Option.some Jvm.ClassFile.FieldType.int)) ∈ lw_all := lw_g (lw_at lw_m4 141 rfl) rfl
theorem q947 : (Jvm.Cond.methodLink "java/util/Objects" (105 : Nat) ({ cls := "jdk/internal/util/Preconditions", name := "checkIndex", desc := "(IILjava/util/function/BiFunction;)I" } : Jvm.MethodName)) ∈ lw_all := lw_g (lw_at lw_m4 142 rfl) rfl


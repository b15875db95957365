set_option maxRecDepth 100000
/-! java/lang/Throwable -/
abbrev cJ3_init : ByteArray := prog_40_method_1_code
def yJ3_init : MethodName := ⟨RJ3, "<init>", "()V"⟩
def dkwJ3_init_1 : List UInt8 := [182, 0, 27, 87, 177]
abbrev dktJ3_init_1 : List UInt8 := dkwJ3_init_1 ++ []
def dkwJ3_init_0 : List UInt8 := [42, 183, 0, 1, 42, 42, 181, 0, 7, 42, 178, 0, 13, 181, 0, 17, 42, 178, 0, 20, 181, 0, 24, 42]
abbrev dktJ3_init_0 : List UInt8 := dkwJ3_init_0 ++ dktJ3_init_1
theorem dksJ3_init_0 : cJ3_init.data.toList.drop 0 = dktJ3_init_0 := by decide +kernel
theorem dksJ3_init_1 : cJ3_init.data.toList.drop 24 = dktJ3_init_1 := dk_seg dksJ3_init_0 24 rfl rfl
theorem dJ3_init_0 : decode cJ3_init 0 = .ok (.aload_n 0, 1) := dk_42 (dk_at dksJ3_init_0 0 rfl rfl)
theorem dJ3_init_1 : decode cJ3_init 1 = .ok (.invokespecial 1, 3) := dk_183 0 1 (dk_at dksJ3_init_0 1 rfl rfl)
theorem dJ3_init_4 : decode cJ3_init 4 = .ok (.aload_n 0, 1) := dk_42 (dk_at dksJ3_init_0 4 rfl rfl)
theorem dJ3_init_5 : decode cJ3_init 5 = .ok (.aload_n 0, 1) := dk_42 (dk_at dksJ3_init_0 5 rfl rfl)
theorem dJ3_init_6 : decode cJ3_init 6 = .ok (.putfield 7, 3) := dk_181 0 7 (dk_at dksJ3_init_0 6 rfl rfl)
theorem dJ3_init_9 : decode cJ3_init 9 = .ok (.aload_n 0, 1) := dk_42 (dk_at dksJ3_init_0 9 rfl rfl)
theorem dJ3_init_10 : decode cJ3_init 10 = .ok (.getstatic 13, 3) := dk_178 0 13 (dk_at dksJ3_init_0 10 rfl rfl)
theorem dJ3_init_13 : decode cJ3_init 13 = .ok (.putfield 17, 3) := dk_181 0 17 (dk_at dksJ3_init_0 13 rfl rfl)
theorem dJ3_init_16 : decode cJ3_init 16 = .ok (.aload_n 0, 1) := dk_42 (dk_at dksJ3_init_0 16 rfl rfl)
theorem dJ3_init_17 : decode cJ3_init 17 = .ok (.getstatic 20, 3) := dk_178 0 20 (dk_at dksJ3_init_0 17 rfl rfl)
theorem dJ3_init_20 : decode cJ3_init 20 = .ok (.putfield 24, 3) := dk_181 0 24 (dk_at dksJ3_init_0 20 rfl rfl)
theorem dJ3_init_23 : decode cJ3_init 23 = .ok (.aload_n 0, 1) := dk_42 (dk_at dksJ3_init_0 23 rfl rfl)
theorem dJ3_init_24 : decode cJ3_init 24 = .ok (.invokevirtual 27, 3) := dk_182 0 27 (dk_at dksJ3_init_1 0 rfl rfl)
theorem dJ3_init_27 : decode cJ3_init 27 = .ok (.pop, 1) := dk_87 (dk_at dksJ3_init_1 3 rfl rfl)
theorem dJ3_init_28 : decode cJ3_init 28 = .ok (.return_, 1) := dk_177 (dk_at dksJ3_init_1 4 rfl rfl)
abbrev cJ3_init_2 : ByteArray := prog_40_method_2_code
def yJ3_init_2 : MethodName := ⟨RJ3, "<init>", "(Ljava/lang/String;)V"⟩
def dkwJ3_init_2_1 : List UInt8 := [182, 0, 27, 87, 42, 43, 181, 0, 31, 177]
abbrev dktJ3_init_2_1 : List UInt8 := dkwJ3_init_2_1 ++ []
def dkwJ3_init_2_0 : List UInt8 := [42, 183, 0, 1, 42, 42, 181, 0, 7, 42, 178, 0, 13, 181, 0, 17, 42, 178, 0, 20, 181, 0, 24, 42]
abbrev dktJ3_init_2_0 : List UInt8 := dkwJ3_init_2_0 ++ dktJ3_init_2_1
theorem dksJ3_init_2_0 : cJ3_init_2.data.toList.drop 0 = dktJ3_init_2_0 := by decide +kernel
theorem dksJ3_init_2_1 : cJ3_init_2.data.toList.drop 24 = dktJ3_init_2_1 := dk_seg dksJ3_init_2_0 24 rfl rfl
theorem dJ3_init_2_0 : decode cJ3_init_2 0 = .ok (.aload_n 0, 1) := dk_42 (dk_at dksJ3_init_2_0 0 rfl rfl)
theorem dJ3_init_2_1 : decode cJ3_init_2 1 = .ok (.invokespecial 1, 3) := dk_183 0 1 (dk_at dksJ3_init_2_0 1 rfl rfl)
theorem dJ3_init_2_4 : decode cJ3_init_2 4 = .ok (.aload_n 0, 1) := dk_42 (dk_at dksJ3_init_2_0 4 rfl rfl)
theorem dJ3_init_2_5 : decode cJ3_init_2 5 = .ok (.aload_n 0, 1) := dk_42 (dk_at dksJ3_init_2_0 5 rfl rfl)
theorem dJ3_init_2_6 : decode cJ3_init_2 6 = .ok (.putfield 7, 3) := dk_181 0 7 (dk_at dksJ3_init_2_0 6 rfl rfl)
theorem dJ3_init_2_9 : decode cJ3_init_2 9 = .ok (.aload_n 0, 1) := dk_42 (dk_at dksJ3_init_2_0 9 rfl rfl)
theorem dJ3_init_2_10 : decode cJ3_init_2 10 = .ok (.getstatic 13, 3) := dk_178 0 13 (dk_at dksJ3_init_2_0 10 rfl rfl)
theorem dJ3_init_2_13 : decode cJ3_init_2 13 = .ok (.putfield 17, 3) := dk_181 0 17 (dk_at dksJ3_init_2_0 13 rfl rfl)
theorem dJ3_init_2_16 : decode cJ3_init_2 16 = .ok (.aload_n 0, 1) := dk_42 (dk_at dksJ3_init_2_0 16 rfl rfl)
theorem dJ3_init_2_17 : decode cJ3_init_2 17 = .ok (.getstatic 20, 3) := dk_178 0 20 (dk_at dksJ3_init_2_0 17 rfl rfl)
theorem dJ3_init_2_20 : decode cJ3_init_2 20 = .ok (.putfield 24, 3) := dk_181 0 24 (dk_at dksJ3_init_2_0 20 rfl rfl)
theorem dJ3_init_2_23 : decode cJ3_init_2 23 = .ok (.aload_n 0, 1) := dk_42 (dk_at dksJ3_init_2_0 23 rfl rfl)
theorem dJ3_init_2_24 : decode cJ3_init_2 24 = .ok (.invokevirtual 27, 3) := dk_182 0 27 (dk_at dksJ3_init_2_1 0 rfl rfl)
theorem dJ3_init_2_27 : decode cJ3_init_2 27 = .ok (.pop, 1) := dk_87 (dk_at dksJ3_init_2_1 3 rfl rfl)
theorem dJ3_init_2_28 : decode cJ3_init_2 28 = .ok (.aload_n 0, 1) := dk_42 (dk_at dksJ3_init_2_1 4 rfl rfl)
theorem dJ3_init_2_29 : decode cJ3_init_2 29 = .ok (.aload_n 1, 1) := dk_43 (dk_at dksJ3_init_2_1 5 rfl rfl)
theorem dJ3_init_2_30 : decode cJ3_init_2 30 = .ok (.putfield 31, 3) := dk_181 0 31 (dk_at dksJ3_init_2_1 6 rfl rfl)
theorem dJ3_init_2_33 : decode cJ3_init_2 33 = .ok (.return_, 1) := dk_177 (dk_at dksJ3_init_2_1 9 rfl rfl)
abbrev cJ3_init_3 : ByteArray := prog_40_method_5_code
def yJ3_init_3 : MethodName := ⟨RJ3, "<init>", "(Ljava/lang/String;Ljava/lang/Throwable;ZZ)V"⟩
def dkwJ3_init_3_2 : List UInt8 := [44, 181, 0, 7, 29, 154, 0, 8, 42, 1, 181, 0, 24, 177]
abbrev dktJ3_init_3_2 : List UInt8 := dkwJ3_init_3_2 ++ []
def dkwJ3_init_3_1 : List UInt8 := [21, 4, 153, 0, 11, 42, 182, 0, 27, 87, 167, 0, 8, 42, 1, 181, 0, 17, 42, 43, 181, 0, 31, 42]
abbrev dktJ3_init_3_1 : List UInt8 := dkwJ3_init_3_1 ++ dktJ3_init_3_2
def dkwJ3_init_3_0 : List UInt8 := [42, 183, 0, 1, 42, 42, 181, 0, 7, 42, 178, 0, 13, 181, 0, 17, 42, 178, 0, 20, 181, 0, 24]
abbrev dktJ3_init_3_0 : List UInt8 := dkwJ3_init_3_0 ++ dktJ3_init_3_1
theorem dksJ3_init_3_0 : cJ3_init_3.data.toList.drop 0 = dktJ3_init_3_0 := by decide +kernel
theorem dksJ3_init_3_1 : cJ3_init_3.data.toList.drop 23 = dktJ3_init_3_1 := dk_seg dksJ3_init_3_0 23 rfl rfl
theorem dksJ3_init_3_2 : cJ3_init_3.data.toList.drop 47 = dktJ3_init_3_2 := dk_seg dksJ3_init_3_1 24 rfl rfl
theorem dJ3_init_3_0 : decode cJ3_init_3 0 = .ok (.aload_n 0, 1) := dk_42 (dk_at dksJ3_init_3_0 0 rfl rfl)
theorem dJ3_init_3_1 : decode cJ3_init_3 1 = .ok (.invokespecial 1, 3) := dk_183 0 1 (dk_at dksJ3_init_3_0 1 rfl rfl)
theorem dJ3_init_3_4 : decode cJ3_init_3 4 = .ok (.aload_n 0, 1) := dk_42 (dk_at dksJ3_init_3_0 4 rfl rfl)
theorem dJ3_init_3_5 : decode cJ3_init_3 5 = .ok (.aload_n 0, 1) := dk_42 (dk_at dksJ3_init_3_0 5 rfl rfl)
theorem dJ3_init_3_6 : decode cJ3_init_3 6 = .ok (.putfield 7, 3) := dk_181 0 7 (dk_at dksJ3_init_3_0 6 rfl rfl)
theorem dJ3_init_3_9 : decode cJ3_init_3 9 = .ok (.aload_n 0, 1) := dk_42 (dk_at dksJ3_init_3_0 9 rfl rfl)
theorem dJ3_init_3_10 : decode cJ3_init_3 10 = .ok (.getstatic 13, 3) := dk_178 0 13 (dk_at dksJ3_init_3_0 10 rfl rfl)
theorem dJ3_init_3_13 : decode cJ3_init_3 13 = .ok (.putfield 17, 3) := dk_181 0 17 (dk_at dksJ3_init_3_0 13 rfl rfl)
theorem dJ3_init_3_16 : decode cJ3_init_3 16 = .ok (.aload_n 0, 1) := dk_42 (dk_at dksJ3_init_3_0 16 rfl rfl)
theorem dJ3_init_3_17 : decode cJ3_init_3 17 = .ok (.getstatic 20, 3) := dk_178 0 20 (dk_at dksJ3_init_3_0 17 rfl rfl)
theorem dJ3_init_3_20 : decode cJ3_init_3 20 = .ok (.putfield 24, 3) := dk_181 0 24 (dk_at dksJ3_init_3_0 20 rfl rfl)
theorem dJ3_init_3_23 : decode cJ3_init_3 23 = .ok (.iload 4, 2) := dk_21 4 (dk_at dksJ3_init_3_1 0 rfl rfl)
theorem dJ3_init_3_25 : decode cJ3_init_3 25 = .ok (.ifCond .eq 11, 3) := dk_153 0 11 (dk_at dksJ3_init_3_1 2 rfl rfl)
theorem dJ3_init_3_28 : decode cJ3_init_3 28 = .ok (.aload_n 0, 1) := dk_42 (dk_at dksJ3_init_3_1 5 rfl rfl)
theorem dJ3_init_3_29 : decode cJ3_init_3 29 = .ok (.invokevirtual 27, 3) := dk_182 0 27 (dk_at dksJ3_init_3_1 6 rfl rfl)
theorem dJ3_init_3_32 : decode cJ3_init_3 32 = .ok (.pop, 1) := dk_87 (dk_at dksJ3_init_3_1 9 rfl rfl)
theorem dJ3_init_3_33 : decode cJ3_init_3 33 = .ok (.goto 8, 3) := dk_167 0 8 (dk_at dksJ3_init_3_1 10 rfl rfl)
theorem dJ3_init_3_36 : decode cJ3_init_3 36 = .ok (.aload_n 0, 1) := dk_42 (dk_at dksJ3_init_3_1 13 rfl rfl)
theorem dJ3_init_3_37 : decode cJ3_init_3 37 = .ok (.aconst_null, 1) := dk_1 (dk_at dksJ3_init_3_1 14 rfl rfl)
theorem dJ3_init_3_38 : decode cJ3_init_3 38 = .ok (.putfield 17, 3) := dk_181 0 17 (dk_at dksJ3_init_3_1 15 rfl rfl)
theorem dJ3_init_3_41 : decode cJ3_init_3 41 = .ok (.aload_n 0, 1) := dk_42 (dk_at dksJ3_init_3_1 18 rfl rfl)
theorem dJ3_init_3_42 : decode cJ3_init_3 42 = .ok (.aload_n 1, 1) := dk_43 (dk_at dksJ3_init_3_1 19 rfl rfl)
theorem dJ3_init_3_43 : decode cJ3_init_3 43 = .ok (.putfield 31, 3) := dk_181 0 31 (dk_at dksJ3_init_3_1 20 rfl rfl)
theorem dJ3_init_3_46 : decode cJ3_init_3 46 = .ok (.aload_n 0, 1) := dk_42 (dk_at dksJ3_init_3_1 23 rfl rfl)
theorem dJ3_init_3_47 : decode cJ3_init_3 47 = .ok (.aload_n 2, 1) := dk_44 (dk_at dksJ3_init_3_2 0 rfl rfl)
theorem dJ3_init_3_48 : decode cJ3_init_3 48 = .ok (.putfield 7, 3) := dk_181 0 7 (dk_at dksJ3_init_3_2 1 rfl rfl)
theorem dJ3_init_3_51 : decode cJ3_init_3 51 = .ok (.iload_n 3, 1) := dk_29 (dk_at dksJ3_init_3_2 4 rfl rfl)
theorem dJ3_init_3_52 : decode cJ3_init_3 52 = .ok (.ifCond .ne 8, 3) := dk_154 0 8 (dk_at dksJ3_init_3_2 5 rfl rfl)
theorem dJ3_init_3_55 : decode cJ3_init_3 55 = .ok (.aload_n 0, 1) := dk_42 (dk_at dksJ3_init_3_2 8 rfl rfl)
theorem dJ3_init_3_56 : decode cJ3_init_3 56 = .ok (.aconst_null, 1) := dk_1 (dk_at dksJ3_init_3_2 9 rfl rfl)
theorem dJ3_init_3_57 : decode cJ3_init_3 57 = .ok (.putfield 24, 3) := dk_181 0 24 (dk_at dksJ3_init_3_2 10 rfl rfl)
theorem dJ3_init_3_60 : decode cJ3_init_3 60 = .ok (.return_, 1) := dk_177 (dk_at dksJ3_init_3_2 13 rfl rfl)
theorem q91 : (Jvm.Cond.initialized "java/lang/Throwable") ∈ lw_all := lw_g (lw_at lw_m1 6 rfl) rfl
theorem q163 : (Jvm.Cond.declares ({ cls := "java/lang/Throwable", name := "<init>", desc := "()V" } : Jvm.MethodName)) ∈ lw_tbl := lw_at lw_m1 78 rfl
theorem q164 : (Jvm.Cond.declares ({ cls := "java/lang/Throwable", name := "<init>", desc := "(Ljava/lang/String;)V" } : Jvm.MethodName)) ∈ lw_tbl := lw_at lw_m1 79 rfl
theorem q168 : (Jvm.Cond.lays "java/lang/Throwable" "java/lang/Throwable" "cause" "Ljava/lang/Throwable;") ∈ lw_all := lw_g (lw_at lw_m1 83 rfl) rfl
theorem q170 : (Jvm.Cond.lays "java/lang/Throwable" "java/lang/Throwable" "stackTrace" "[Ljava/lang/StackTraceElement;") ∈ lw_all := lw_g (lw_at lw_m1 85 rfl) rfl
theorem q172 : (Jvm.Cond.lays "java/lang/Throwable" "java/lang/Throwable" "suppressedExceptions" "Ljava/util/List;") ∈ lw_all := lw_g (lw_at lw_m1 87 rfl) rfl
theorem q174 : (Jvm.Cond.lays "java/lang/Throwable" "java/lang/Throwable" "detailMessage" "Ljava/lang/String;") ∈ lw_all := lw_g (lw_at lw_m1 89 rfl) rfl
theorem q176 : (Jvm.Cond.lays "java/lang/Throwable" "java/lang/Throwable" "backtrace" "Ljava/lang/Object;") ∈ lw_all := lw_g (lw_at lw_m1 91 rfl) rfl
theorem q177 : (Jvm.Cond.fieldLink "java/lang/Throwable" (198 : Nat) "java/lang/Throwable" "backtrace" "Ljava/lang/Object;") ∈ lw_all := lw_g (lw_at lw_m1 92 rfl) rfl
theorem q178 : (Jvm.Cond.superclass "java/lang/Throwable" "java/lang/Object") ∈ lw_all := lw_g (lw_at lw_m1 93 rfl) rfl
theorem q179 : (Jvm.Cond.instanceMethod ({ cls := "java/lang/Throwable", name := "<init>", desc := "()V" } : Jvm.MethodName)) ∈ lw_all := lw_g (lw_at lw_m1 94 rfl) rfl
theorem q180 : (Jvm.Cond.code ({ cls := "java/lang/Throwable", name := "<init>", desc := "()V" } : Jvm.MethodName) prog_40_method_1_code (1 : Nat) (Option.none : Option Jvm.ClassFile.FieldType)) ∈ lw_all := lw_g (lw_at lw_m1 95 rfl) rfl
theorem q181 : (Jvm.Cond.methodLink "java/lang/Throwable" (1 : Nat) ({ cls := "java/lang/Object", name := "<init>", desc := "()V" } : Jvm.MethodName)) ∈ lw_all := lw_g (lw_at lw_m1 96 rfl) rfl
theorem q182 : (Jvm.Cond.fieldLink "java/lang/Throwable" (13 : Nat) "java/lang/Throwable" "UNASSIGNED_STACK" "[Ljava/lang/StackTraceElement;") ∈ lw_all := lw_g (lw_at lw_m1 97 rfl) rfl
theorem q183 : (Jvm.Cond.laysStatic "java/lang/Throwable" "UNASSIGNED_STACK" "[Ljava/lang/StackTraceElement;") ∈ lw_tbl := lw_at lw_m1 98 rfl
theorem q184 : (Jvm.Cond.fieldLink "java/lang/Throwable" (20 : Nat) "java/lang/Throwable" "SUPPRESSED_SENTINEL" "Ljava/util/List;") ∈ lw_all := lw_g (lw_at lw_m1 99 rfl) rfl
theorem q185 : (Jvm.Cond.laysStatic "java/lang/Throwable" "SUPPRESSED_SENTINEL" "Ljava/util/List;") ∈ lw_tbl := lw_at lw_m1 100 rfl
theorem q186 : (Jvm.Cond.methodLink "java/lang/Throwable" (27 : Nat) ({ cls := "java/lang/Throwable", name := "fillInStackTrace", desc := "()Ljava/lang/Throwable;" } : Jvm.MethodName)) ∈ lw_all := lw_g (lw_at lw_m1 101 rfl) rfl
theorem q187 : (Jvm.Cond.instanceMethod ({ cls := "java/lang/Throwable", name := "fillInStackTrace", desc := "()Ljava/lang/Throwable;" } : Jvm.MethodName)) ∈ lw_all := lw_g (lw_at lw_m1 102 rfl) rfl
theorem q188 : (Jvm.Cond.sameMethod "java/lang/Throwable" "java/lang/Throwable" "fillInStackTrace" "()Ljava/lang/Throwable;") ∈ lw_all := lw_g (lw_at lw_m1 103 rfl) rfl
theorem q193 : (Jvm.Cond.codeSync ({ cls := "java/lang/Throwable", name := "fillInStackTrace", desc := "()Ljava/lang/Throwable;" } : Jvm.MethodName) prog_40_method_18_code (1 : Nat) (Option.some (Jvm.ClassFile.FieldType.object "java/lang/Throwable"))) ∈ lw_all := lw_g (lw_at lw_m1 108 rfl) rfl
theorem q194 : (Jvm.Cond.methodLink "java/lang/Throwable" (202 : Nat) ({ cls := "java/lang/Throwable", name := "fillInStackTrace", desc := "(I)Ljava/lang/Throwable;" } : Jvm.MethodName)) ∈ lw_all := lw_g (lw_at lw_m1 109 rfl) rfl
theorem q195 : (Jvm.Cond.privateMethod ({ cls := "java/lang/Throwable", name := "fillInStackTrace", desc := "(I)Ljava/lang/Throwable;" } : Jvm.MethodName)) ∈ lw_tbl := lw_at lw_m1 110 rfl
theorem q196 : (Jvm.Cond.instanceMethod ({ cls := "java/lang/Throwable", name := "fillInStackTrace", desc := "(I)Ljava/lang/Throwable;" } : Jvm.MethodName)) ∈ lw_all := lw_g (lw_at lw_m1 111 rfl) rfl
theorem q197 : (Jvm.Cond.instantiable "java/lang/Throwable" (6 : Nat)) ∈ lw_all := lw_g (lw_at lw_m1 112 rfl) rfl
theorem q198 : (Jvm.Cond.native ({ cls := "java/lang/Throwable", name := "fillInStackTrace", desc := "(I)Ljava/lang/Throwable;" } : Jvm.MethodName)) ∈ lw_all := lw_g (lw_at lw_m1 113 rfl) rfl
theorem q430 : (Jvm.Cond.instanceMethod ({ cls := "java/lang/Throwable", name := "<init>", desc := "(Ljava/lang/String;)V" } : Jvm.MethodName)) ∈ lw_all := lw_g (lw_at lw_m2 105 rfl) rfl
theorem q431 : (Jvm.Cond.code ({ cls := "java/lang/Throwable", name := "<init>", desc := "(Ljava/lang/String;)V" } : Jvm.MethodName) prog_40_method_2_code (2 : Nat) (Option.none : Option Jvm.ClassFile.FieldType)) ∈ lw_all := lw_g (lw_at lw_m2 106 rfl) rfl
theorem q432 : (Jvm.Cond.fieldLink "java/lang/Throwable" (198 : Nat) "java/lang/Throwable" "backtrace" "Ljava/lang/Object;") ∈ lw_all := lw_g (lw_at lw_m2 107 rfl) rfl
theorem q433 : (Jvm.Cond.fieldLink "java/lang/Throwable" (31 : Nat) "java/lang/Throwable" "detailMessage" "Ljava/lang/String;") ∈ lw_all := lw_g (lw_at lw_m2 108 rfl) rfl
theorem q434 : (Jvm.Cond.fieldLink "java/lang/Throwable" (7 : Nat) "java/lang/Throwable" "cause" "Ljava/lang/Throwable;") ∈ lw_all := lw_g (lw_at lw_m2 109 rfl) rfl
theorem q435 : (Jvm.Cond.fieldLink "java/lang/Throwable" (17 : Nat) "java/lang/Throwable" "stackTrace" "[Ljava/lang/StackTraceElement;") ∈ lw_all := lw_g (lw_at lw_m2 110 rfl) rfl
theorem q436 : (Jvm.Cond.fieldLink "java/lang/Throwable" (24 : Nat) "java/lang/Throwable" "suppressedExceptions" "Ljava/util/List;") ∈ lw_all := lw_g (lw_at lw_m2 111 rfl) rfl
theorem q437 : (Jvm.Cond.soleField "java/lang/Throwable" "backtrace") ∈ lw_all := lw_g (lw_at lw_m2 112 rfl) rfl
theorem q438 : (Jvm.Cond.soleField "java/lang/Throwable" "detailMessage") ∈ lw_all := lw_g (lw_at lw_m2 113 rfl) rfl
theorem q439 : (Jvm.Cond.soleField "java/lang/Throwable" "cause") ∈ lw_all := lw_g (lw_at lw_m2 114 rfl) rfl
theorem q440 : (Jvm.Cond.soleField "java/lang/Throwable" "stackTrace") ∈ lw_all := lw_g (lw_at lw_m2 115 rfl) rfl
theorem q442 : (Jvm.Cond.soleField "java/lang/Throwable" "depth") ∈ lw_all := lw_g (lw_at lw_m2 117 rfl) rfl
theorem q443 : (Jvm.Cond.soleField "java/lang/Throwable" "suppressedExceptions") ∈ lw_all := lw_g (lw_at lw_m2 118 rfl) rfl
theorem q752 : (Jvm.Cond.instanceMethod ({ cls := "java/lang/Throwable", name := "<init>", desc := "(Ljava/lang/String;Ljava/lang/Throwable;ZZ)V" } : Jvm.MethodName)) ∈ lw_all := lw_g (lw_at lw_m3 187 rfl) rfl
theorem q753 : (Jvm.Cond.code ({ cls := "java/lang/Throwable", name := "<init>", desc := "(Ljava/lang/String;Ljava/lang/Throwable;ZZ)V" } : Jvm.MethodName) prog_40_method_5_code (5 : Nat) (Option.none : Option Jvm.ClassFile.FieldType)) ∈ lw_all := lw_g (lw_at lw_m3 188 rfl) rfl
theorem q2190 : (Jvm.Cond.sameMethod "java/lang/Throwable" "java/lang/Throwable" "fillInStackTrace" "(I)Ljava/lang/Throwable;") ∈ lw_all := lw_g (lw_at lw_m9 185 rfl) rfl
theorem q2228 : (Jvm.Cond.castable "java/lang/Throwable" "java/lang/Object") ∈ lw_tbl := lw_at lw_m9 223 rfl


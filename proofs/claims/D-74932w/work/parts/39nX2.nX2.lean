set_option maxRecDepth 100000
/-! ScaleInspection$Market -/
abbrev cX2_init : ByteArray := prog_10_method_1_code
def yX2_init : MethodName := ⟨RX2, "<init>", "()V"⟩
def dkwX2_init_2 : List UInt8 := [5, 79, 89, 5, 5, 79, 181, 0, 27, 177]
abbrev dktX2_init_2 : List UInt8 := dkwX2_init_2 ++ []
def dkwX2_init_1 : List UInt8 := [183, 0, 11, 181, 0, 20, 42, 16, 10, 188, 10, 181, 0, 23, 42, 6, 188, 10, 89, 3, 5, 79, 89, 4]
abbrev dktX2_init_1 : List UInt8 := dkwX2_init_1 ++ dktX2_init_2
def dkwX2_init_0 : List UInt8 := [42, 183, 0, 3, 42, 187, 0, 9, 89, 7, 183, 0, 11, 181, 0, 14, 42, 187, 0, 9, 89, 5]
abbrev dktX2_init_0 : List UInt8 := dkwX2_init_0 ++ dktX2_init_1
theorem dksX2_init_0 : cX2_init.data.toList.drop 0 = dktX2_init_0 := by decide +kernel
theorem dksX2_init_1 : cX2_init.data.toList.drop 22 = dktX2_init_1 := dk_seg dksX2_init_0 22 rfl rfl
theorem dksX2_init_2 : cX2_init.data.toList.drop 46 = dktX2_init_2 := dk_seg dksX2_init_1 24 rfl rfl
theorem dX2_init_0 : decode cX2_init 0 = .ok (.aload_n 0, 1) := dk_42 (dk_at dksX2_init_0 0 rfl rfl)
theorem dX2_init_1 : decode cX2_init 1 = .ok (.invokespecial 3, 3) := dk_183 0 3 (dk_at dksX2_init_0 1 rfl rfl)
theorem dX2_init_4 : decode cX2_init 4 = .ok (.aload_n 0, 1) := dk_42 (dk_at dksX2_init_0 4 rfl rfl)
theorem dX2_init_5 : decode cX2_init 5 = .ok (.new 9, 3) := dk_187 0 9 (dk_at dksX2_init_0 5 rfl rfl)
theorem dX2_init_8 : decode cX2_init 8 = .ok (.dup, 1) := dk_89 (dk_at dksX2_init_0 8 rfl rfl)
theorem dX2_init_9 : decode cX2_init 9 = .ok (.iconst 4, 1) := dk_7 (dk_at dksX2_init_0 9 rfl rfl)
theorem dX2_init_10 : decode cX2_init 10 = .ok (.invokespecial 11, 3) := dk_183 0 11 (dk_at dksX2_init_0 10 rfl rfl)
theorem dX2_init_13 : decode cX2_init 13 = .ok (.putfield 14, 3) := dk_181 0 14 (dk_at dksX2_init_0 13 rfl rfl)
theorem dX2_init_16 : decode cX2_init 16 = .ok (.aload_n 0, 1) := dk_42 (dk_at dksX2_init_0 16 rfl rfl)
theorem dX2_init_17 : decode cX2_init 17 = .ok (.new 9, 3) := dk_187 0 9 (dk_at dksX2_init_0 17 rfl rfl)
theorem dX2_init_20 : decode cX2_init 20 = .ok (.dup, 1) := dk_89 (dk_at dksX2_init_0 20 rfl rfl)
theorem dX2_init_21 : decode cX2_init 21 = .ok (.iconst 2, 1) := dk_5 (dk_at dksX2_init_0 21 rfl rfl)
theorem dX2_init_22 : decode cX2_init 22 = .ok (.invokespecial 11, 3) := dk_183 0 11 (dk_at dksX2_init_1 0 rfl rfl)
theorem dX2_init_25 : decode cX2_init 25 = .ok (.putfield 20, 3) := dk_181 0 20 (dk_at dksX2_init_1 3 rfl rfl)
theorem dX2_init_28 : decode cX2_init 28 = .ok (.aload_n 0, 1) := dk_42 (dk_at dksX2_init_1 6 rfl rfl)
theorem dX2_init_29 : decode cX2_init 29 = .ok (.bipush 10, 2) := dk_16 10 (dk_at dksX2_init_1 7 rfl rfl)
theorem dX2_init_31 : decode cX2_init 31 = .ok (.newarray .int, 2) := dk_188_10 (dk_at dksX2_init_1 9 rfl rfl)
theorem dX2_init_33 : decode cX2_init 33 = .ok (.putfield 23, 3) := dk_181 0 23 (dk_at dksX2_init_1 11 rfl rfl)
theorem dX2_init_36 : decode cX2_init 36 = .ok (.aload_n 0, 1) := dk_42 (dk_at dksX2_init_1 14 rfl rfl)
theorem dX2_init_37 : decode cX2_init 37 = .ok (.iconst 3, 1) := dk_6 (dk_at dksX2_init_1 15 rfl rfl)
theorem dX2_init_38 : decode cX2_init 38 = .ok (.newarray .int, 2) := dk_188_10 (dk_at dksX2_init_1 16 rfl rfl)
theorem dX2_init_40 : decode cX2_init 40 = .ok (.dup, 1) := dk_89 (dk_at dksX2_init_1 18 rfl rfl)
theorem dX2_init_41 : decode cX2_init 41 = .ok (.iconst 0, 1) := dk_3 (dk_at dksX2_init_1 19 rfl rfl)
theorem dX2_init_42 : decode cX2_init 42 = .ok (.iconst 2, 1) := dk_5 (dk_at dksX2_init_1 20 rfl rfl)
theorem dX2_init_43 : decode cX2_init 43 = .ok (.iastore, 1) := dk_79 (dk_at dksX2_init_1 21 rfl rfl)
theorem dX2_init_44 : decode cX2_init 44 = .ok (.dup, 1) := dk_89 (dk_at dksX2_init_1 22 rfl rfl)
theorem dX2_init_45 : decode cX2_init 45 = .ok (.iconst 1, 1) := dk_4 (dk_at dksX2_init_1 23 rfl rfl)
theorem dX2_init_46 : decode cX2_init 46 = .ok (.iconst 2, 1) := dk_5 (dk_at dksX2_init_2 0 rfl rfl)
theorem dX2_init_47 : decode cX2_init 47 = .ok (.iastore, 1) := dk_79 (dk_at dksX2_init_2 1 rfl rfl)
theorem dX2_init_48 : decode cX2_init 48 = .ok (.dup, 1) := dk_89 (dk_at dksX2_init_2 2 rfl rfl)
theorem dX2_init_49 : decode cX2_init 49 = .ok (.iconst 2, 1) := dk_5 (dk_at dksX2_init_2 3 rfl rfl)
theorem dX2_init_50 : decode cX2_init 50 = .ok (.iconst 2, 1) := dk_5 (dk_at dksX2_init_2 4 rfl rfl)
theorem dX2_init_51 : decode cX2_init 51 = .ok (.iastore, 1) := dk_79 (dk_at dksX2_init_2 5 rfl rfl)
theorem dX2_init_52 : decode cX2_init 52 = .ok (.putfield 27, 3) := dk_181 0 27 (dk_at dksX2_init_2 6 rfl rfl)
theorem dX2_init_55 : decode cX2_init 55 = .ok (.return_, 1) := dk_177 (dk_at dksX2_init_2 9 rfl rfl)
abbrev cX2_load : ByteArray := prog_10_method_2_code
def yX2_load : MethodName := ⟨RX2, "load", "(I)I"⟩
def dkwX2_load_1 : List UInt8 := [180, 0, 23, 29, 46, 96, 61, 132, 3, 1, 167, 255, 228, 28, 172]
abbrev dktX2_load_1 : List UInt8 := dkwX2_load_1 ++ []
def dkwX2_load_0 : List UInt8 := [3, 61, 3, 62, 29, 42, 180, 0, 30, 162, 0, 26, 27, 29, 184, 0, 34, 153, 0, 12, 28, 42]
abbrev dktX2_load_0 : List UInt8 := dkwX2_load_0 ++ dktX2_load_1
theorem dksX2_load_0 : cX2_load.data.toList.drop 0 = dktX2_load_0 := by decide +kernel
theorem dksX2_load_1 : cX2_load.data.toList.drop 22 = dktX2_load_1 := dk_seg dksX2_load_0 22 rfl rfl
theorem dX2_load_0 : decode cX2_load 0 = .ok (.iconst 0, 1) := dk_3 (dk_at dksX2_load_0 0 rfl rfl)
theorem dX2_load_1 : decode cX2_load 1 = .ok (.istore_n 2, 1) := dk_61 (dk_at dksX2_load_0 1 rfl rfl)
theorem dX2_load_2 : decode cX2_load 2 = .ok (.iconst 0, 1) := dk_3 (dk_at dksX2_load_0 2 rfl rfl)
theorem dX2_load_3 : decode cX2_load 3 = .ok (.istore_n 3, 1) := dk_62 (dk_at dksX2_load_0 3 rfl rfl)
theorem dX2_load_4 : decode cX2_load 4 = .ok (.iload_n 3, 1) := dk_29 (dk_at dksX2_load_0 4 rfl rfl)
theorem dX2_load_5 : decode cX2_load 5 = .ok (.aload_n 0, 1) := dk_42 (dk_at dksX2_load_0 5 rfl rfl)
theorem dX2_load_6 : decode cX2_load 6 = .ok (.getfield 30, 3) := dk_180 0 30 (dk_at dksX2_load_0 6 rfl rfl)
theorem dX2_load_9 : decode cX2_load 9 = .ok (.if_icmp .ge 26, 3) := dk_162 0 26 (dk_at dksX2_load_0 9 rfl rfl)
theorem dX2_load_12 : decode cX2_load 12 = .ok (.iload_n 1, 1) := dk_27 (dk_at dksX2_load_0 12 rfl rfl)
theorem dX2_load_13 : decode cX2_load 13 = .ok (.iload_n 3, 1) := dk_29 (dk_at dksX2_load_0 13 rfl rfl)
theorem dX2_load_14 : decode cX2_load 14 = .ok (.invokestatic 34, 3) := dk_184 0 34 (dk_at dksX2_load_0 14 rfl rfl)
theorem dX2_load_17 : decode cX2_load 17 = .ok (.ifCond .eq 12, 3) := dk_153 0 12 (dk_at dksX2_load_0 17 rfl rfl)
theorem dX2_load_20 : decode cX2_load 20 = .ok (.iload_n 2, 1) := dk_28 (dk_at dksX2_load_0 20 rfl rfl)
theorem dX2_load_21 : decode cX2_load 21 = .ok (.aload_n 0, 1) := dk_42 (dk_at dksX2_load_0 21 rfl rfl)
theorem dX2_load_22 : decode cX2_load 22 = .ok (.getfield 23, 3) := dk_180 0 23 (dk_at dksX2_load_1 0 rfl rfl)
theorem dX2_load_25 : decode cX2_load 25 = .ok (.iload_n 3, 1) := dk_29 (dk_at dksX2_load_1 3 rfl rfl)
theorem dX2_load_26 : decode cX2_load 26 = .ok (.iaload, 1) := dk_46 (dk_at dksX2_load_1 4 rfl rfl)
theorem dX2_load_27 : decode cX2_load 27 = .ok (.iadd, 1) := dk_96 (dk_at dksX2_load_1 5 rfl rfl)
theorem dX2_load_28 : decode cX2_load 28 = .ok (.istore_n 2, 1) := dk_61 (dk_at dksX2_load_1 6 rfl rfl)
theorem dX2_load_29 : decode cX2_load 29 = .ok (.iinc 3 1, 3) := dk_132 3 1 (dk_at dksX2_load_1 7 rfl rfl)
theorem dX2_load_32 : decode cX2_load 32 = .ok (.goto (-28), 3) := dk_167 255 228 (dk_at dksX2_load_1 10 rfl rfl)
theorem dX2_load_35 : decode cX2_load 35 = .ok (.iload_n 2, 1) := dk_28 (dk_at dksX2_load_1 13 rfl rfl)
theorem dX2_load_36 : decode cX2_load 36 = .ok (.ireturn, 1) := dk_172 (dk_at dksX2_load_1 14 rfl rfl)
theorem q87 : (Jvm.Cond.initialized "ScaleInspection$Market") ∈ lw_all := lw_g (lw_at lw_m1 2 rfl) rfl
theorem q135 : (Jvm.Cond.instantiable "ScaleInspection$Market" (6 : Nat)) ∈ lw_all := lw_g (lw_at lw_m1 50 rfl) rfl
theorem q137 : (Jvm.Cond.instanceMethod ({ cls := "ScaleInspection$Market", name := "<init>", desc := "()V" } : Jvm.MethodName)) ∈ lw_all := lw_g (lw_at lw_m1 52 rfl) rfl
theorem q138 : (Jvm.Cond.code ({ cls := "ScaleInspection$Market", name := "<init>", desc := "()V" } : Jvm.MethodName) prog_10_method_1_code (1 : Nat) (Option.none : Option Jvm.ClassFile.FieldType)) ∈ lw_all := lw_g (lw_at lw_m1 53 rfl) rfl
theorem q139 : (Jvm.Cond.methodLink "ScaleInspection$Market" (3 : Nat) ({ cls := "java/lang/Object", name := "<init>", desc := "()V" } : Jvm.MethodName)) ∈ lw_all := lw_g (lw_at lw_m1 54 rfl) rfl
theorem q140 : (Jvm.Cond.classLink "ScaleInspection$Market" (9 : Nat) "java/util/ArrayList") ∈ lw_all := lw_g (lw_at lw_m1 55 rfl) rfl
theorem q142 : (Jvm.Cond.methodLink "ScaleInspection$Market" (11 : Nat) ({ cls := "java/util/ArrayList", name := "<init>", desc := "(I)V" } : Jvm.MethodName)) ∈ lw_all := lw_g (lw_at lw_m1 57 rfl) rfl
theorem q482 : (Jvm.Cond.fieldLink "ScaleInspection$Market" (14 : Nat) "ScaleInspection$Market" "scales" "Ljava/util/ArrayList;") ∈ lw_all := lw_g (lw_at lw_m2 157 rfl) rfl
theorem q485 : (Jvm.Cond.fieldLink "ScaleInspection$Market" (20 : Nat) "ScaleInspection$Market" "sets" "Ljava/util/ArrayList;") ∈ lw_all := lw_g (lw_at lw_m2 160 rfl) rfl
theorem q488 : (Jvm.Cond.fieldLink "ScaleInspection$Market" (23 : Nat) "ScaleInspection$Market" "masses" "[I") ∈ lw_all := lw_g (lw_at lw_m2 163 rfl) rfl
theorem q491 : (Jvm.Cond.fieldLink "ScaleInspection$Market" (27 : Nat) "ScaleInspection$Market" "terms" "[I") ∈ lw_all := lw_g (lw_at lw_m2 166 rfl) rfl
theorem q496 : (Jvm.Cond.fieldLink "ScaleInspection$Market" (30 : Nat) "ScaleInspection$Market" "massCount" "I") ∈ lw_all := lw_g (lw_at lw_m2 171 rfl) rfl
theorem q499 : (Jvm.Cond.laysFinal "ScaleInspection$Market" "ScaleInspection$Market" "scales" "Ljava/util/ArrayList;") ∈ lw_all := lw_g (lw_at lw_m2 174 rfl) rfl
theorem q500 : (Jvm.Cond.soleField "ScaleInspection$Market" "scales") ∈ lw_all := lw_g (lw_at lw_m2 175 rfl) rfl
theorem q501 : (Jvm.Cond.laysFinal "ScaleInspection$Market" "ScaleInspection$Market" "sets" "Ljava/util/ArrayList;") ∈ lw_all := lw_g (lw_at lw_m2 176 rfl) rfl
theorem q502 : (Jvm.Cond.soleField "ScaleInspection$Market" "sets") ∈ lw_all := lw_g (lw_at lw_m2 177 rfl) rfl
theorem q503 : (Jvm.Cond.laysFinal "ScaleInspection$Market" "ScaleInspection$Market" "masses" "[I") ∈ lw_all := lw_g (lw_at lw_m2 178 rfl) rfl
theorem q504 : (Jvm.Cond.soleField "ScaleInspection$Market" "masses") ∈ lw_all := lw_g (lw_at lw_m2 179 rfl) rfl
theorem q505 : (Jvm.Cond.laysFinal "ScaleInspection$Market" "ScaleInspection$Market" "terms" "[I") ∈ lw_all := lw_g (lw_at lw_m2 180 rfl) rfl
theorem q506 : (Jvm.Cond.soleField "ScaleInspection$Market" "terms") ∈ lw_all := lw_g (lw_at lw_m2 181 rfl) rfl
theorem q507 : (Jvm.Cond.lays "ScaleInspection$Market" "ScaleInspection$Market" "traders" "I") ∈ lw_all := lw_g (lw_at lw_m2 182 rfl) rfl
theorem q508 : (Jvm.Cond.soleField "ScaleInspection$Market" "traders") ∈ lw_all := lw_g (lw_at lw_m2 183 rfl) rfl
theorem q509 : (Jvm.Cond.lays "ScaleInspection$Market" "ScaleInspection$Market" "massCount" "I") ∈ lw_all := lw_g (lw_at lw_m2 184 rfl) rfl
theorem q510 : (Jvm.Cond.soleField "ScaleInspection$Market" "massCount") ∈ lw_all := lw_g (lw_at lw_m2 185 rfl) rfl
theorem q511 : (Jvm.Cond.superclass "ScaleInspection$Market" "java/lang/Object") ∈ lw_all := lw_g (lw_at lw_m2 186 rfl) rfl
theorem q869 : (Jvm.Cond.selects "ScaleInspection$Market" ({ cls := "java/lang/Object", name := "getClass", desc := "()Ljava/lang/Class;" } : Jvm.MethodName) ({ cls := "java/lang/Object", name := "getClass", desc := "()Ljava/lang/Class;" } : Jvm.MethodName)) ∈ lw_all := lw_g (lw_at lw_m4 64 rfl) rfl
theorem q1029 : (Jvm.Cond.instanceMethod ({ cls := "ScaleInspection$Market", name := "load", desc := "(I)I" } : Jvm.MethodName)) ∈ lw_all := lw_g (lw_at lw_m4 224 rfl) rfl
theorem q1030 : (Jvm.Cond.selects "ScaleInspection$Market" ({ cls := "ScaleInspection$Market", name := "load", desc := "(I)I" } : Jvm.MethodName) ({ cls := "ScaleInspection$Market", name := "load", desc := "(I)I" } : Jvm.MethodName)) ∈ lw_all := lw_g (lw_at lw_m4 225 rfl) rfl
theorem q1031 : (Jvm.Cond.code ({ cls := "ScaleInspection$Market", name := "load", desc := "(I)I" } : Jvm.MethodName) prog_10_method_2_code (4 : Nat) (Option.some Jvm.ClassFile.FieldType.int)) ∈ lw_all := lw_g (lw_at lw_m4 226 rfl) rfl
theorem q1032 : (Jvm.Cond.methodLinkNest "ScaleInspection$Market" (34 : Nat) ({ cls := "ScaleInspection", name := "isIn", desc := "(II)Z" } : Jvm.MethodName) "ScaleInspection") ∈ lw_tbl := lw_at lw_m4 227 rfl
theorem q2206 : (Jvm.Cond.castable "ScaleInspection$Market" "java/lang/Object") ∈ lw_tbl := lw_at lw_m9 201 rfl


set_option maxRecDepth 100000
/-! ScaleInspection$Entry -/
abbrev cX3_init : ByteArray := prog_8_method_1_code
def yX3_init : MethodName := ⟨RX3, "<init>", "()V"⟩
def dkwX3_init_1 : List UInt8 := [183, 0, 9, 181, 0, 18, 177]
abbrev dktX3_init_1 : List UInt8 := dkwX3_init_1 ++ []
def dkwX3_init_0 : List UInt8 := [42, 183, 0, 1, 42, 187, 0, 7, 89, 5, 183, 0, 9, 181, 0, 12, 42, 187, 0, 7, 89, 5]
abbrev dktX3_init_0 : List UInt8 := dkwX3_init_0 ++ dktX3_init_1
theorem dksX3_init_0 : cX3_init.data.toList.drop 0 = dktX3_init_0 := by decide +kernel
theorem dksX3_init_1 : cX3_init.data.toList.drop 22 = dktX3_init_1 := dk_seg dksX3_init_0 22 rfl rfl
theorem dX3_init_0 : decode cX3_init 0 = .ok (.aload_n 0, 1) := dk_42 (dk_at dksX3_init_0 0 rfl rfl)
theorem dX3_init_1 : decode cX3_init 1 = .ok (.invokespecial 1, 3) := dk_183 0 1 (dk_at dksX3_init_0 1 rfl rfl)
theorem dX3_init_4 : decode cX3_init 4 = .ok (.aload_n 0, 1) := dk_42 (dk_at dksX3_init_0 4 rfl rfl)
theorem dX3_init_5 : decode cX3_init 5 = .ok (.new 7, 3) := dk_187 0 7 (dk_at dksX3_init_0 5 rfl rfl)
theorem dX3_init_8 : decode cX3_init 8 = .ok (.dup, 1) := dk_89 (dk_at dksX3_init_0 8 rfl rfl)
theorem dX3_init_9 : decode cX3_init 9 = .ok (.iconst 2, 1) := dk_5 (dk_at dksX3_init_0 9 rfl rfl)
theorem dX3_init_10 : decode cX3_init 10 = .ok (.invokespecial 9, 3) := dk_183 0 9 (dk_at dksX3_init_0 10 rfl rfl)
theorem dX3_init_13 : decode cX3_init 13 = .ok (.putfield 12, 3) := dk_181 0 12 (dk_at dksX3_init_0 13 rfl rfl)
theorem dX3_init_16 : decode cX3_init 16 = .ok (.aload_n 0, 1) := dk_42 (dk_at dksX3_init_0 16 rfl rfl)
theorem dX3_init_17 : decode cX3_init 17 = .ok (.new 7, 3) := dk_187 0 7 (dk_at dksX3_init_0 17 rfl rfl)
theorem dX3_init_20 : decode cX3_init 20 = .ok (.dup, 1) := dk_89 (dk_at dksX3_init_0 20 rfl rfl)
theorem dX3_init_21 : decode cX3_init 21 = .ok (.iconst 2, 1) := dk_5 (dk_at dksX3_init_0 21 rfl rfl)
theorem dX3_init_22 : decode cX3_init 22 = .ok (.invokespecial 9, 3) := dk_183 0 9 (dk_at dksX3_init_1 0 rfl rfl)
theorem dX3_init_25 : decode cX3_init 25 = .ok (.putfield 18, 3) := dk_181 0 18 (dk_at dksX3_init_1 3 rfl rfl)
theorem dX3_init_28 : decode cX3_init 28 = .ok (.return_, 1) := dk_177 (dk_at dksX3_init_1 6 rfl rfl)
abbrev cX3_copy : ByteArray := prog_8_method_2_code
def yX3_copy : MethodName := ⟨RX3, "copy", "()LScaleInspection$Entry;"⟩
def dkwX3_copy_3 : List UInt8 := [182, 0, 40, 87, 132, 2, 1, 167, 255, 189, 43, 180, 0, 18, 42, 180, 0, 18, 182, 0, 44, 87, 43, 176]
abbrev dktX3_copy_3 : List UInt8 := dkwX3_copy_3 ++ []
def dkwX3_copy_2 : List UInt8 := [28, 182, 0, 26, 192, 0, 30, 167, 0, 17, 42, 180, 0, 12, 28, 182, 0, 26, 192, 0, 30, 182, 0, 36]
abbrev dktX3_copy_2 : List UInt8 := dkwX3_copy_2 ++ dktX3_copy_3
def dkwX3_copy_1 : List UInt8 := [180, 0, 12, 42, 180, 0, 12, 28, 182, 0, 26, 192, 0, 30, 182, 0, 32, 153, 0, 17, 42, 180, 0, 12]
abbrev dktX3_copy_1 : List UInt8 := dkwX3_copy_1 ++ dktX3_copy_2
def dkwX3_copy_0 : List UInt8 := [187, 0, 13, 89, 183, 0, 21, 76, 3, 61, 28, 42, 180, 0, 12, 182, 0, 22, 162, 0, 62, 43]
abbrev dktX3_copy_0 : List UInt8 := dkwX3_copy_0 ++ dktX3_copy_1
theorem dksX3_copy_0 : cX3_copy.data.toList.drop 0 = dktX3_copy_0 := by decide +kernel
theorem dksX3_copy_1 : cX3_copy.data.toList.drop 22 = dktX3_copy_1 := dk_seg dksX3_copy_0 22 rfl rfl
theorem dksX3_copy_2 : cX3_copy.data.toList.drop 46 = dktX3_copy_2 := dk_seg dksX3_copy_1 24 rfl rfl
theorem dksX3_copy_3 : cX3_copy.data.toList.drop 70 = dktX3_copy_3 := dk_seg dksX3_copy_2 24 rfl rfl
theorem dX3_copy_0 : decode cX3_copy 0 = .ok (.new 13, 3) := dk_187 0 13 (dk_at dksX3_copy_0 0 rfl rfl)
theorem dX3_copy_3 : decode cX3_copy 3 = .ok (.dup, 1) := dk_89 (dk_at dksX3_copy_0 3 rfl rfl)
theorem dX3_copy_4 : decode cX3_copy 4 = .ok (.invokespecial 21, 3) := dk_183 0 21 (dk_at dksX3_copy_0 4 rfl rfl)
theorem dX3_copy_7 : decode cX3_copy 7 = .ok (.astore_n 1, 1) := dk_76 (dk_at dksX3_copy_0 7 rfl rfl)
theorem dX3_copy_8 : decode cX3_copy 8 = .ok (.iconst 0, 1) := dk_3 (dk_at dksX3_copy_0 8 rfl rfl)
theorem dX3_copy_9 : decode cX3_copy 9 = .ok (.istore_n 2, 1) := dk_61 (dk_at dksX3_copy_0 9 rfl rfl)
theorem dX3_copy_10 : decode cX3_copy 10 = .ok (.iload_n 2, 1) := dk_28 (dk_at dksX3_copy_0 10 rfl rfl)
theorem dX3_copy_11 : decode cX3_copy 11 = .ok (.aload_n 0, 1) := dk_42 (dk_at dksX3_copy_0 11 rfl rfl)
theorem dX3_copy_12 : decode cX3_copy 12 = .ok (.getfield 12, 3) := dk_180 0 12 (dk_at dksX3_copy_0 12 rfl rfl)
theorem dX3_copy_15 : decode cX3_copy 15 = .ok (.invokevirtual 22, 3) := dk_182 0 22 (dk_at dksX3_copy_0 15 rfl rfl)
theorem dX3_copy_18 : decode cX3_copy 18 = .ok (.if_icmp .ge 62, 3) := dk_162 0 62 (dk_at dksX3_copy_0 18 rfl rfl)
theorem dX3_copy_21 : decode cX3_copy 21 = .ok (.aload_n 1, 1) := dk_43 (dk_at dksX3_copy_0 21 rfl rfl)
theorem dX3_copy_22 : decode cX3_copy 22 = .ok (.getfield 12, 3) := dk_180 0 12 (dk_at dksX3_copy_1 0 rfl rfl)
theorem dX3_copy_25 : decode cX3_copy 25 = .ok (.aload_n 0, 1) := dk_42 (dk_at dksX3_copy_1 3 rfl rfl)
theorem dX3_copy_26 : decode cX3_copy 26 = .ok (.getfield 12, 3) := dk_180 0 12 (dk_at dksX3_copy_1 4 rfl rfl)
theorem dX3_copy_29 : decode cX3_copy 29 = .ok (.iload_n 2, 1) := dk_28 (dk_at dksX3_copy_1 7 rfl rfl)
theorem dX3_copy_30 : decode cX3_copy 30 = .ok (.invokevirtual 26, 3) := dk_182 0 26 (dk_at dksX3_copy_1 8 rfl rfl)
theorem dX3_copy_33 : decode cX3_copy 33 = .ok (.checkcast 30, 3) := dk_192 0 30 (dk_at dksX3_copy_1 11 rfl rfl)
theorem dX3_copy_36 : decode cX3_copy 36 = .ok (.invokevirtual 32, 3) := dk_182 0 32 (dk_at dksX3_copy_1 14 rfl rfl)
theorem dX3_copy_39 : decode cX3_copy 39 = .ok (.ifCond .eq 17, 3) := dk_153 0 17 (dk_at dksX3_copy_1 17 rfl rfl)
theorem dX3_copy_42 : decode cX3_copy 42 = .ok (.aload_n 0, 1) := dk_42 (dk_at dksX3_copy_1 20 rfl rfl)
theorem dX3_copy_43 : decode cX3_copy 43 = .ok (.getfield 12, 3) := dk_180 0 12 (dk_at dksX3_copy_1 21 rfl rfl)
theorem dX3_copy_46 : decode cX3_copy 46 = .ok (.iload_n 2, 1) := dk_28 (dk_at dksX3_copy_2 0 rfl rfl)
theorem dX3_copy_47 : decode cX3_copy 47 = .ok (.invokevirtual 26, 3) := dk_182 0 26 (dk_at dksX3_copy_2 1 rfl rfl)
theorem dX3_copy_50 : decode cX3_copy 50 = .ok (.checkcast 30, 3) := dk_192 0 30 (dk_at dksX3_copy_2 4 rfl rfl)
theorem dX3_copy_53 : decode cX3_copy 53 = .ok (.goto 17, 3) := dk_167 0 17 (dk_at dksX3_copy_2 7 rfl rfl)
theorem dX3_copy_56 : decode cX3_copy 56 = .ok (.aload_n 0, 1) := dk_42 (dk_at dksX3_copy_2 10 rfl rfl)
theorem dX3_copy_57 : decode cX3_copy 57 = .ok (.getfield 12, 3) := dk_180 0 12 (dk_at dksX3_copy_2 11 rfl rfl)
theorem dX3_copy_60 : decode cX3_copy 60 = .ok (.iload_n 2, 1) := dk_28 (dk_at dksX3_copy_2 14 rfl rfl)
theorem dX3_copy_61 : decode cX3_copy 61 = .ok (.invokevirtual 26, 3) := dk_182 0 26 (dk_at dksX3_copy_2 15 rfl rfl)
theorem dX3_copy_64 : decode cX3_copy 64 = .ok (.checkcast 30, 3) := dk_192 0 30 (dk_at dksX3_copy_2 18 rfl rfl)
theorem dX3_copy_67 : decode cX3_copy 67 = .ok (.invokevirtual 36, 3) := dk_182 0 36 (dk_at dksX3_copy_2 21 rfl rfl)
theorem dX3_copy_70 : decode cX3_copy 70 = .ok (.invokevirtual 40, 3) := dk_182 0 40 (dk_at dksX3_copy_3 0 rfl rfl)
theorem dX3_copy_73 : decode cX3_copy 73 = .ok (.pop, 1) := dk_87 (dk_at dksX3_copy_3 3 rfl rfl)
theorem dX3_copy_74 : decode cX3_copy 74 = .ok (.iinc 2 1, 3) := dk_132 2 1 (dk_at dksX3_copy_3 4 rfl rfl)
theorem dX3_copy_77 : decode cX3_copy 77 = .ok (.goto (-67), 3) := dk_167 255 189 (dk_at dksX3_copy_3 7 rfl rfl)
theorem dX3_copy_80 : decode cX3_copy 80 = .ok (.aload_n 1, 1) := dk_43 (dk_at dksX3_copy_3 10 rfl rfl)
theorem dX3_copy_81 : decode cX3_copy 81 = .ok (.getfield 18, 3) := dk_180 0 18 (dk_at dksX3_copy_3 11 rfl rfl)
theorem dX3_copy_84 : decode cX3_copy 84 = .ok (.aload_n 0, 1) := dk_42 (dk_at dksX3_copy_3 14 rfl rfl)
theorem dX3_copy_85 : decode cX3_copy 85 = .ok (.getfield 18, 3) := dk_180 0 18 (dk_at dksX3_copy_3 15 rfl rfl)
theorem dX3_copy_88 : decode cX3_copy 88 = .ok (.invokevirtual 44, 3) := dk_182 0 44 (dk_at dksX3_copy_3 18 rfl rfl)
theorem dX3_copy_91 : decode cX3_copy 91 = .ok (.pop, 1) := dk_87 (dk_at dksX3_copy_3 21 rfl rfl)
theorem dX3_copy_92 : decode cX3_copy 92 = .ok (.aload_n 1, 1) := dk_43 (dk_at dksX3_copy_3 22 rfl rfl)
theorem dX3_copy_93 : decode cX3_copy 93 = .ok (.areturn, 1) := dk_176 (dk_at dksX3_copy_3 23 rfl rfl)
theorem q106 : (Jvm.Cond.initialized "ScaleInspection$Entry") ∈ lw_all := lw_g (lw_at lw_m1 21 rfl) rfl
theorem q514 : (Jvm.Cond.instantiable "ScaleInspection$Entry" (2 : Nat)) ∈ lw_all := lw_g (lw_at lw_m2 189 rfl) rfl
theorem q516 : (Jvm.Cond.instanceMethod ({ cls := "ScaleInspection$Entry", name := "<init>", desc := "()V" } : Jvm.MethodName)) ∈ lw_all := lw_g (lw_at lw_m2 191 rfl) rfl
theorem q517 : (Jvm.Cond.code ({ cls := "ScaleInspection$Entry", name := "<init>", desc := "()V" } : Jvm.MethodName) prog_8_method_1_code (1 : Nat) (Option.none : Option Jvm.ClassFile.FieldType)) ∈ lw_all := lw_g (lw_at lw_m2 192 rfl) rfl
theorem q518 : (Jvm.Cond.methodLink "ScaleInspection$Entry" (1 : Nat) ({ cls := "java/lang/Object", name := "<init>", desc := "()V" } : Jvm.MethodName)) ∈ lw_all := lw_g (lw_at lw_m2 193 rfl) rfl
theorem q519 : (Jvm.Cond.classLink "ScaleInspection$Entry" (7 : Nat) "java/util/ArrayList") ∈ lw_all := lw_g (lw_at lw_m2 194 rfl) rfl
theorem q520 : (Jvm.Cond.methodLink "ScaleInspection$Entry" (9 : Nat) ({ cls := "java/util/ArrayList", name := "<init>", desc := "(I)V" } : Jvm.MethodName)) ∈ lw_all := lw_g (lw_at lw_m2 195 rfl) rfl
theorem q521 : (Jvm.Cond.fieldLink "ScaleInspection$Entry" (12 : Nat) "ScaleInspection$Entry" "visits" "Ljava/util/ArrayList;") ∈ lw_all := lw_g (lw_at lw_m2 196 rfl) rfl
theorem q523 : (Jvm.Cond.fieldLink "ScaleInspection$Entry" (18 : Nat) "ScaleInspection$Entry" "sets" "Ljava/util/ArrayList;") ∈ lw_all := lw_g (lw_at lw_m2 198 rfl) rfl
theorem q525 : (Jvm.Cond.laysFinal "ScaleInspection$Entry" "ScaleInspection$Entry" "visits" "Ljava/util/ArrayList;") ∈ lw_all := lw_g (lw_at lw_m2 200 rfl) rfl
theorem q526 : (Jvm.Cond.soleField "ScaleInspection$Entry" "visits") ∈ lw_all := lw_g (lw_at lw_m2 201 rfl) rfl
theorem q527 : (Jvm.Cond.laysFinal "ScaleInspection$Entry" "ScaleInspection$Entry" "sets" "Ljava/util/ArrayList;") ∈ lw_all := lw_g (lw_at lw_m2 202 rfl) rfl
theorem q528 : (Jvm.Cond.soleField "ScaleInspection$Entry" "sets") ∈ lw_all := lw_g (lw_at lw_m2 203 rfl) rfl
theorem q529 : (Jvm.Cond.superclass "ScaleInspection$Entry" "java/lang/Object") ∈ lw_all := lw_g (lw_at lw_m2 204 rfl) rfl
theorem q867 : (Jvm.Cond.selects "ScaleInspection$Entry" ({ cls := "java/lang/Object", name := "getClass", desc := "()Ljava/lang/Class;" } : Jvm.MethodName) ({ cls := "java/lang/Object", name := "getClass", desc := "()Ljava/lang/Class;" } : Jvm.MethodName)) ∈ lw_all := lw_g (lw_at lw_m4 62 rfl) rfl
theorem q1083 : (Jvm.Cond.instanceMethod ({ cls := "ScaleInspection$Entry", name := "copy", desc := "()LScaleInspection$Entry;" } : Jvm.MethodName)) ∈ lw_all := lw_g (lw_at lw_m5 38 rfl) rfl
theorem q1084 : (Jvm.Cond.selects "ScaleInspection$Entry" ({ cls := "ScaleInspection$Entry", name := "copy", desc := "()LScaleInspection$Entry;" } : Jvm.MethodName) ({ cls := "ScaleInspection$Entry", name := "copy", desc := "()LScaleInspection$Entry;" } : Jvm.MethodName)) ∈ lw_all := lw_g (lw_at lw_m5 39 rfl) rfl
theorem q1085 : (Jvm.Cond.code ({ cls := "ScaleInspection$Entry", name := "copy", desc := "()LScaleInspection$Entry;" } : Jvm.MethodName) prog_8_method_2_code (3 : Nat) (Option.some (Jvm.ClassFile.FieldType.object "ScaleInspection$Entry"))) ∈ lw_all := lw_g (lw_at lw_m5 40 rfl) rfl
theorem q1086 : (Jvm.Cond.classLink "ScaleInspection$Entry" (13 : Nat) "ScaleInspection$Entry") ∈ lw_all := lw_g (lw_at lw_m5 41 rfl) rfl
theorem q1087 : (Jvm.Cond.methodLink "ScaleInspection$Entry" (21 : Nat) ({ cls := "ScaleInspection$Entry", name := "<init>", desc := "()V" } : Jvm.MethodName)) ∈ lw_all := lw_g (lw_at lw_m5 42 rfl) rfl
theorem q1088 : (Jvm.Cond.methodLink "ScaleInspection$Entry" (22 : Nat) ({ cls := "java/util/ArrayList", name := "size", desc := "()I" } : Jvm.MethodName)) ∈ lw_all := lw_g (lw_at lw_m5 43 rfl) rfl
theorem q1089 : (Jvm.Cond.methodLink "ScaleInspection$Entry" (26 : Nat) ({ cls := "java/util/ArrayList", name := "get", desc := "(I)Ljava/lang/Object;" } : Jvm.MethodName)) ∈ lw_all := lw_g (lw_at lw_m5 44 rfl) rfl
theorem q1090 : (Jvm.Cond.classLink "ScaleInspection$Entry" (30 : Nat) "ScaleInspection$Visit") ∈ lw_all := lw_g (lw_at lw_m5 45 rfl) rfl
theorem q1091 : (Jvm.Cond.methodLink "ScaleInspection$Entry" (32 : Nat) ({ cls := "ScaleInspection$Visit", name := "isClosed", desc := "()Z" } : Jvm.MethodName)) ∈ lw_all := lw_g (lw_at lw_m5 46 rfl) rfl
theorem q1092 : (Jvm.Cond.methodLink "ScaleInspection$Entry" (36 : Nat) ({ cls := "ScaleInspection$Visit", name := "copy", desc := "()LScaleInspection$Visit;" } : Jvm.MethodName)) ∈ lw_all := lw_g (lw_at lw_m5 47 rfl) rfl
theorem q1132 : (Jvm.Cond.methodLink "ScaleInspection$Entry" (40 : Nat) ({ cls := "java/util/ArrayList", name := "add", desc := "(Ljava/lang/Object;)Z" } : Jvm.MethodName)) ∈ lw_all := lw_g (lw_at lw_m5 87 rfl) rfl
theorem q1133 : (Jvm.Cond.methodLink "ScaleInspection$Entry" (44 : Nat) ({ cls := "java/util/ArrayList", name := "addAll", desc := "(Ljava/util/Collection;)Z" } : Jvm.MethodName)) ∈ lw_all := lw_g (lw_at lw_m5 88 rfl) rfl
theorem q2202 : (Jvm.Cond.castable "ScaleInspection$Entry" "java/lang/Object") ∈ lw_tbl := lw_at lw_m9 197 rfl


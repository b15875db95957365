set_option maxRecDepth 100000
/-! ScaleInspection$Visit -/
abbrev cX15_isClosed : ByteArray := prog_17_method_3_code
def yX15_isClosed : MethodName := ⟨RX15, "isClosed", "()Z"⟩
def dkwX15_isClosed_0 : List UInt8 := [42, 180, 0, 18, 16, 254, 159, 0, 7, 4, 167, 0, 4, 3, 172]
abbrev dktX15_isClosed_0 : List UInt8 := dkwX15_isClosed_0 ++ []
theorem dksX15_isClosed_0 : cX15_isClosed.data.toList.drop 0 = dktX15_isClosed_0 := by decide +kernel
theorem dX15_isClosed_0 : decode cX15_isClosed 0 = .ok (.aload_n 0, 1) := dk_42 (dk_at dksX15_isClosed_0 0 rfl rfl)
theorem dX15_isClosed_1 : decode cX15_isClosed 1 = .ok (.getfield 18, 3) := dk_180 0 18 (dk_at dksX15_isClosed_0 1 rfl rfl)
theorem dX15_isClosed_4 : decode cX15_isClosed 4 = .ok (.bipush (-2), 2) := dk_16 254 (dk_at dksX15_isClosed_0 4 rfl rfl)
theorem dX15_isClosed_6 : decode cX15_isClosed 6 = .ok (.if_icmp .eq 7, 3) := dk_159 0 7 (dk_at dksX15_isClosed_0 6 rfl rfl)
theorem dX15_isClosed_9 : decode cX15_isClosed 9 = .ok (.iconst 1, 1) := dk_4 (dk_at dksX15_isClosed_0 9 rfl rfl)
theorem dX15_isClosed_10 : decode cX15_isClosed 10 = .ok (.goto 4, 3) := dk_167 0 4 (dk_at dksX15_isClosed_0 10 rfl rfl)
theorem dX15_isClosed_13 : decode cX15_isClosed 13 = .ok (.iconst 0, 1) := dk_3 (dk_at dksX15_isClosed_0 13 rfl rfl)
theorem dX15_isClosed_14 : decode cX15_isClosed 14 = .ok (.ireturn, 1) := dk_172 (dk_at dksX15_isClosed_0 14 rfl rfl)
abbrev cX15_copy : ByteArray := prog_17_method_2_code
def yX15_copy : MethodName := ⟨RX15, "copy", "()LScaleInspection$Visit;"⟩
def dkwX15_copy_2 : List UInt8 := [180, 0, 34, 184, 0, 37, 43, 42, 180, 0, 34, 181, 0, 34, 43, 42, 180, 0, 18, 181, 0, 18, 43, 176]
abbrev dktX15_copy_2 : List UInt8 := dkwX15_copy_2 ++ []
def dkwX15_copy_1 : List UInt8 := [3, 43, 180, 0, 9, 3, 42, 180, 0, 34, 184, 0, 37, 42, 180, 0, 15, 3, 43, 180, 0, 15, 3, 42]
abbrev dktX15_copy_1 : List UInt8 := dkwX15_copy_1 ++ dktX15_copy_2
def dkwX15_copy_0 : List UInt8 := [187, 0, 10, 89, 42, 180, 0, 22, 42, 180, 0, 25, 42, 180, 0, 28, 183, 0, 31, 76, 42, 180, 0, 9]
abbrev dktX15_copy_0 : List UInt8 := dkwX15_copy_0 ++ dktX15_copy_1
theorem dksX15_copy_0 : cX15_copy.data.toList.drop 0 = dktX15_copy_0 := by decide +kernel
theorem dksX15_copy_1 : cX15_copy.data.toList.drop 24 = dktX15_copy_1 := dk_seg dksX15_copy_0 24 rfl rfl
theorem dksX15_copy_2 : cX15_copy.data.toList.drop 48 = dktX15_copy_2 := dk_seg dksX15_copy_1 24 rfl rfl
theorem dX15_copy_0 : decode cX15_copy 0 = .ok (.new 10, 3) := dk_187 0 10 (dk_at dksX15_copy_0 0 rfl rfl)
theorem dX15_copy_3 : decode cX15_copy 3 = .ok (.dup, 1) := dk_89 (dk_at dksX15_copy_0 3 rfl rfl)
theorem dX15_copy_4 : decode cX15_copy 4 = .ok (.aload_n 0, 1) := dk_42 (dk_at dksX15_copy_0 4 rfl rfl)
theorem dX15_copy_5 : decode cX15_copy 5 = .ok (.getfield 22, 3) := dk_180 0 22 (dk_at dksX15_copy_0 5 rfl rfl)
theorem dX15_copy_8 : decode cX15_copy 8 = .ok (.aload_n 0, 1) := dk_42 (dk_at dksX15_copy_0 8 rfl rfl)
theorem dX15_copy_9 : decode cX15_copy 9 = .ok (.getfield 25, 3) := dk_180 0 25 (dk_at dksX15_copy_0 9 rfl rfl)
theorem dX15_copy_12 : decode cX15_copy 12 = .ok (.aload_n 0, 1) := dk_42 (dk_at dksX15_copy_0 12 rfl rfl)
theorem dX15_copy_13 : decode cX15_copy 13 = .ok (.getfield 28, 3) := dk_180 0 28 (dk_at dksX15_copy_0 13 rfl rfl)
theorem dX15_copy_16 : decode cX15_copy 16 = .ok (.invokespecial 31, 3) := dk_183 0 31 (dk_at dksX15_copy_0 16 rfl rfl)
theorem dX15_copy_19 : decode cX15_copy 19 = .ok (.astore_n 1, 1) := dk_76 (dk_at dksX15_copy_0 19 rfl rfl)
theorem dX15_copy_20 : decode cX15_copy 20 = .ok (.aload_n 0, 1) := dk_42 (dk_at dksX15_copy_0 20 rfl rfl)
theorem dX15_copy_21 : decode cX15_copy 21 = .ok (.getfield 9, 3) := dk_180 0 9 (dk_at dksX15_copy_0 21 rfl rfl)
theorem dX15_copy_24 : decode cX15_copy 24 = .ok (.iconst 0, 1) := dk_3 (dk_at dksX15_copy_1 0 rfl rfl)
theorem dX15_copy_25 : decode cX15_copy 25 = .ok (.aload_n 1, 1) := dk_43 (dk_at dksX15_copy_1 1 rfl rfl)
theorem dX15_copy_26 : decode cX15_copy 26 = .ok (.getfield 9, 3) := dk_180 0 9 (dk_at dksX15_copy_1 2 rfl rfl)
theorem dX15_copy_29 : decode cX15_copy 29 = .ok (.iconst 0, 1) := dk_3 (dk_at dksX15_copy_1 5 rfl rfl)
theorem dX15_copy_30 : decode cX15_copy 30 = .ok (.aload_n 0, 1) := dk_42 (dk_at dksX15_copy_1 6 rfl rfl)
theorem dX15_copy_31 : decode cX15_copy 31 = .ok (.getfield 34, 3) := dk_180 0 34 (dk_at dksX15_copy_1 7 rfl rfl)
theorem dX15_copy_34 : decode cX15_copy 34 = .ok (.invokestatic 37, 3) := dk_184 0 37 (dk_at dksX15_copy_1 10 rfl rfl)
theorem dX15_copy_37 : decode cX15_copy 37 = .ok (.aload_n 0, 1) := dk_42 (dk_at dksX15_copy_1 13 rfl rfl)
theorem dX15_copy_38 : decode cX15_copy 38 = .ok (.getfield 15, 3) := dk_180 0 15 (dk_at dksX15_copy_1 14 rfl rfl)
theorem dX15_copy_41 : decode cX15_copy 41 = .ok (.iconst 0, 1) := dk_3 (dk_at dksX15_copy_1 17 rfl rfl)
theorem dX15_copy_42 : decode cX15_copy 42 = .ok (.aload_n 1, 1) := dk_43 (dk_at dksX15_copy_1 18 rfl rfl)
theorem dX15_copy_43 : decode cX15_copy 43 = .ok (.getfield 15, 3) := dk_180 0 15 (dk_at dksX15_copy_1 19 rfl rfl)
theorem dX15_copy_46 : decode cX15_copy 46 = .ok (.iconst 0, 1) := dk_3 (dk_at dksX15_copy_1 22 rfl rfl)
theorem dX15_copy_47 : decode cX15_copy 47 = .ok (.aload_n 0, 1) := dk_42 (dk_at dksX15_copy_1 23 rfl rfl)
theorem dX15_copy_48 : decode cX15_copy 48 = .ok (.getfield 34, 3) := dk_180 0 34 (dk_at dksX15_copy_2 0 rfl rfl)
theorem dX15_copy_51 : decode cX15_copy 51 = .ok (.invokestatic 37, 3) := dk_184 0 37 (dk_at dksX15_copy_2 3 rfl rfl)
theorem dX15_copy_54 : decode cX15_copy 54 = .ok (.aload_n 1, 1) := dk_43 (dk_at dksX15_copy_2 6 rfl rfl)
theorem dX15_copy_55 : decode cX15_copy 55 = .ok (.aload_n 0, 1) := dk_42 (dk_at dksX15_copy_2 7 rfl rfl)
theorem dX15_copy_56 : decode cX15_copy 56 = .ok (.getfield 34, 3) := dk_180 0 34 (dk_at dksX15_copy_2 8 rfl rfl)
theorem dX15_copy_59 : decode cX15_copy 59 = .ok (.putfield 34, 3) := dk_181 0 34 (dk_at dksX15_copy_2 11 rfl rfl)
theorem dX15_copy_62 : decode cX15_copy 62 = .ok (.aload_n 1, 1) := dk_43 (dk_at dksX15_copy_2 14 rfl rfl)
theorem dX15_copy_63 : decode cX15_copy 63 = .ok (.aload_n 0, 1) := dk_42 (dk_at dksX15_copy_2 15 rfl rfl)
theorem dX15_copy_64 : decode cX15_copy 64 = .ok (.getfield 18, 3) := dk_180 0 18 (dk_at dksX15_copy_2 16 rfl rfl)
theorem dX15_copy_67 : decode cX15_copy 67 = .ok (.putfield 18, 3) := dk_181 0 18 (dk_at dksX15_copy_2 19 rfl rfl)
theorem dX15_copy_70 : decode cX15_copy 70 = .ok (.aload_n 1, 1) := dk_43 (dk_at dksX15_copy_2 22 rfl rfl)
theorem dX15_copy_71 : decode cX15_copy 71 = .ok (.areturn, 1) := dk_176 (dk_at dksX15_copy_2 23 rfl rfl)
abbrev cX15_init : ByteArray := prog_17_method_1_code
def yX15_init : MethodName := ⟨RX15, "<init>", "(III)V"⟩
def dkwX15_init_1 : List UInt8 := [181, 0, 18, 42, 27, 181, 0, 22, 42, 28, 181, 0, 25, 42, 29, 181, 0, 28, 177]
abbrev dktX15_init_1 : List UInt8 := dkwX15_init_1 ++ []
def dkwX15_init_0 : List UInt8 := [42, 183, 0, 3, 42, 16, 8, 188, 10, 181, 0, 9, 42, 16, 8, 188, 10, 181, 0, 15, 42, 16, 254]
abbrev dktX15_init_0 : List UInt8 := dkwX15_init_0 ++ dktX15_init_1
theorem dksX15_init_0 : cX15_init.data.toList.drop 0 = dktX15_init_0 := by decide +kernel
theorem dksX15_init_1 : cX15_init.data.toList.drop 23 = dktX15_init_1 := dk_seg dksX15_init_0 23 rfl rfl
theorem dX15_init_0 : decode cX15_init 0 = .ok (.aload_n 0, 1) := dk_42 (dk_at dksX15_init_0 0 rfl rfl)
theorem dX15_init_1 : decode cX15_init 1 = .ok (.invokespecial 3, 3) := dk_183 0 3 (dk_at dksX15_init_0 1 rfl rfl)
theorem dX15_init_4 : decode cX15_init 4 = .ok (.aload_n 0, 1) := dk_42 (dk_at dksX15_init_0 4 rfl rfl)
theorem dX15_init_5 : decode cX15_init 5 = .ok (.bipush 8, 2) := dk_16 8 (dk_at dksX15_init_0 5 rfl rfl)
theorem dX15_init_7 : decode cX15_init 7 = .ok (.newarray .int, 2) := dk_188_10 (dk_at dksX15_init_0 7 rfl rfl)
theorem dX15_init_9 : decode cX15_init 9 = .ok (.putfield 9, 3) := dk_181 0 9 (dk_at dksX15_init_0 9 rfl rfl)
theorem dX15_init_12 : decode cX15_init 12 = .ok (.aload_n 0, 1) := dk_42 (dk_at dksX15_init_0 12 rfl rfl)
theorem dX15_init_13 : decode cX15_init 13 = .ok (.bipush 8, 2) := dk_16 8 (dk_at dksX15_init_0 13 rfl rfl)
theorem dX15_init_15 : decode cX15_init 15 = .ok (.newarray .int, 2) := dk_188_10 (dk_at dksX15_init_0 15 rfl rfl)
theorem dX15_init_17 : decode cX15_init 17 = .ok (.putfield 15, 3) := dk_181 0 15 (dk_at dksX15_init_0 17 rfl rfl)
theorem dX15_init_20 : decode cX15_init 20 = .ok (.aload_n 0, 1) := dk_42 (dk_at dksX15_init_0 20 rfl rfl)
theorem dX15_init_21 : decode cX15_init 21 = .ok (.bipush (-2), 2) := dk_16 254 (dk_at dksX15_init_0 21 rfl rfl)
theorem dX15_init_23 : decode cX15_init 23 = .ok (.putfield 18, 3) := dk_181 0 18 (dk_at dksX15_init_1 0 rfl rfl)
theorem dX15_init_26 : decode cX15_init 26 = .ok (.aload_n 0, 1) := dk_42 (dk_at dksX15_init_1 3 rfl rfl)
theorem dX15_init_27 : decode cX15_init 27 = .ok (.iload_n 1, 1) := dk_27 (dk_at dksX15_init_1 4 rfl rfl)
theorem dX15_init_28 : decode cX15_init 28 = .ok (.putfield 22, 3) := dk_181 0 22 (dk_at dksX15_init_1 5 rfl rfl)
theorem dX15_init_31 : decode cX15_init 31 = .ok (.aload_n 0, 1) := dk_42 (dk_at dksX15_init_1 8 rfl rfl)
theorem dX15_init_32 : decode cX15_init 32 = .ok (.iload_n 2, 1) := dk_28 (dk_at dksX15_init_1 9 rfl rfl)
theorem dX15_init_33 : decode cX15_init 33 = .ok (.putfield 25, 3) := dk_181 0 25 (dk_at dksX15_init_1 10 rfl rfl)
theorem dX15_init_36 : decode cX15_init 36 = .ok (.aload_n 0, 1) := dk_42 (dk_at dksX15_init_1 13 rfl rfl)
theorem dX15_init_37 : decode cX15_init 37 = .ok (.iload_n 3, 1) := dk_29 (dk_at dksX15_init_1 14 rfl rfl)
theorem dX15_init_38 : decode cX15_init 38 = .ok (.putfield 28, 3) := dk_181 0 28 (dk_at dksX15_init_1 15 rfl rfl)
theorem dX15_init_41 : decode cX15_init 41 = .ok (.return_, 1) := dk_177 (dk_at dksX15_init_1 18 rfl rfl)
theorem q122 : (Jvm.Cond.initialized "ScaleInspection$Visit") ∈ lw_all := lw_g (lw_at lw_m1 37 rfl) rfl
theorem q875 : (Jvm.Cond.selects "ScaleInspection$Visit" ({ cls := "java/lang/Object", name := "getClass", desc := "()Ljava/lang/Class;" } : Jvm.MethodName) ({ cls := "java/lang/Object", name := "getClass", desc := "()Ljava/lang/Class;" } : Jvm.MethodName)) ∈ lw_all := lw_g (lw_at lw_m4 70 rfl) rfl
theorem q1066 : (Jvm.Cond.instanceMethod ({ cls := "ScaleInspection$Visit", name := "isClosed", desc := "()Z" } : Jvm.MethodName)) ∈ lw_all := lw_g (lw_at lw_m5 21 rfl) rfl
theorem q1067 : (Jvm.Cond.selects "ScaleInspection$Visit" ({ cls := "ScaleInspection$Visit", name := "isClosed", desc := "()Z" } : Jvm.MethodName) ({ cls := "ScaleInspection$Visit", name := "isClosed", desc := "()Z" } : Jvm.MethodName)) ∈ lw_all := lw_g (lw_at lw_m5 22 rfl) rfl
theorem q1068 : (Jvm.Cond.code ({ cls := "ScaleInspection$Visit", name := "isClosed", desc := "()Z" } : Jvm.MethodName) prog_17_method_3_code (1 : Nat) (Option.some Jvm.ClassFile.FieldType.boolean)) ∈ lw_all := lw_g (lw_at lw_m5 23 rfl) rfl
theorem q1093 : (Jvm.Cond.instanceMethod ({ cls := "ScaleInspection$Visit", name := "copy", desc := "()LScaleInspection$Visit;" } : Jvm.MethodName)) ∈ lw_all := lw_g (lw_at lw_m5 48 rfl) rfl
theorem q1094 : (Jvm.Cond.selects "ScaleInspection$Visit" ({ cls := "ScaleInspection$Visit", name := "copy", desc := "()LScaleInspection$Visit;" } : Jvm.MethodName) ({ cls := "ScaleInspection$Visit", name := "copy", desc := "()LScaleInspection$Visit;" } : Jvm.MethodName)) ∈ lw_all := lw_g (lw_at lw_m5 49 rfl) rfl
theorem q1095 : (Jvm.Cond.code ({ cls := "ScaleInspection$Visit", name := "copy", desc := "()LScaleInspection$Visit;" } : Jvm.MethodName) prog_17_method_2_code (2 : Nat) (Option.some (Jvm.ClassFile.FieldType.object "ScaleInspection$Visit"))) ∈ lw_all := lw_g (lw_at lw_m5 50 rfl) rfl
theorem q1096 : (Jvm.Cond.classLink "ScaleInspection$Visit" (10 : Nat) "ScaleInspection$Visit") ∈ lw_all := lw_g (lw_at lw_m5 51 rfl) rfl
theorem q1097 : (Jvm.Cond.instantiable "ScaleInspection$Visit" (7 : Nat)) ∈ lw_all := lw_g (lw_at lw_m5 52 rfl) rfl
theorem q1098 : (Jvm.Cond.methodLink "ScaleInspection$Visit" (31 : Nat) ({ cls := "ScaleInspection$Visit", name := "<init>", desc := "(III)V" } : Jvm.MethodName)) ∈ lw_all := lw_g (lw_at lw_m5 53 rfl) rfl
theorem q1099 : (Jvm.Cond.instanceMethod ({ cls := "ScaleInspection$Visit", name := "<init>", desc := "(III)V" } : Jvm.MethodName)) ∈ lw_all := lw_g (lw_at lw_m5 54 rfl) rfl
theorem q1100 : (Jvm.Cond.code ({ cls := "ScaleInspection$Visit", name := "<init>", desc := "(III)V" } : Jvm.MethodName) prog_17_method_1_code (4 : Nat) (Option.none : Option Jvm.ClassFile.FieldType)) ∈ lw_all := lw_g (lw_at lw_m5 55 rfl) rfl
theorem q1101 : (Jvm.Cond.methodLink "ScaleInspection$Visit" (3 : Nat) ({ cls := "java/lang/Object", name := "<init>", desc := "()V" } : Jvm.MethodName)) ∈ lw_all := lw_g (lw_at lw_m5 56 rfl) rfl
theorem q1102 : (Jvm.Cond.fieldLink "ScaleInspection$Visit" (22 : Nat) "ScaleInspection$Visit" "scale" "I") ∈ lw_all := lw_g (lw_at lw_m5 57 rfl) rfl
theorem q1104 : (Jvm.Cond.fieldLink "ScaleInspection$Visit" (25 : Nat) "ScaleInspection$Visit" "day" "I") ∈ lw_all := lw_g (lw_at lw_m5 59 rfl) rfl
theorem q1106 : (Jvm.Cond.fieldLink "ScaleInspection$Visit" (28 : Nat) "ScaleInspection$Visit" "tolerances" "I") ∈ lw_all := lw_g (lw_at lw_m5 61 rfl) rfl
theorem q1108 : (Jvm.Cond.fieldLink "ScaleInspection$Visit" (9 : Nat) "ScaleInspection$Visit" "masses" "[I") ∈ lw_all := lw_g (lw_at lw_m5 63 rfl) rfl
theorem q1110 : (Jvm.Cond.fieldLink "ScaleInspection$Visit" (15 : Nat) "ScaleInspection$Visit" "errors" "[I") ∈ lw_all := lw_g (lw_at lw_m5 65 rfl) rfl
theorem q1112 : (Jvm.Cond.fieldLink "ScaleInspection$Visit" (34 : Nat) "ScaleInspection$Visit" "tests" "I") ∈ lw_all := lw_g (lw_at lw_m5 67 rfl) rfl
theorem q1114 : (Jvm.Cond.fieldLink "ScaleInspection$Visit" (18 : Nat) "ScaleInspection$Visit" "verdict" "I") ∈ lw_all := lw_g (lw_at lw_m5 69 rfl) rfl
theorem q1116 : (Jvm.Cond.laysFinal "ScaleInspection$Visit" "ScaleInspection$Visit" "scale" "I") ∈ lw_all := lw_g (lw_at lw_m5 71 rfl) rfl
theorem q1117 : (Jvm.Cond.soleField "ScaleInspection$Visit" "scale") ∈ lw_all := lw_g (lw_at lw_m5 72 rfl) rfl
theorem q1118 : (Jvm.Cond.laysFinal "ScaleInspection$Visit" "ScaleInspection$Visit" "day" "I") ∈ lw_all := lw_g (lw_at lw_m5 73 rfl) rfl
theorem q1119 : (Jvm.Cond.soleField "ScaleInspection$Visit" "day") ∈ lw_all := lw_g (lw_at lw_m5 74 rfl) rfl
theorem q1120 : (Jvm.Cond.laysFinal "ScaleInspection$Visit" "ScaleInspection$Visit" "tolerances" "I") ∈ lw_all := lw_g (lw_at lw_m5 75 rfl) rfl
theorem q1121 : (Jvm.Cond.soleField "ScaleInspection$Visit" "tolerances") ∈ lw_all := lw_g (lw_at lw_m5 76 rfl) rfl
theorem q1122 : (Jvm.Cond.laysFinal "ScaleInspection$Visit" "ScaleInspection$Visit" "masses" "[I") ∈ lw_all := lw_g (lw_at lw_m5 77 rfl) rfl
theorem q1123 : (Jvm.Cond.soleField "ScaleInspection$Visit" "masses") ∈ lw_all := lw_g (lw_at lw_m5 78 rfl) rfl
theorem q1124 : (Jvm.Cond.laysFinal "ScaleInspection$Visit" "ScaleInspection$Visit" "errors" "[I") ∈ lw_all := lw_g (lw_at lw_m5 79 rfl) rfl
theorem q1125 : (Jvm.Cond.soleField "ScaleInspection$Visit" "errors") ∈ lw_all := lw_g (lw_at lw_m5 80 rfl) rfl
theorem q1126 : (Jvm.Cond.lays "ScaleInspection$Visit" "ScaleInspection$Visit" "tests" "I") ∈ lw_all := lw_g (lw_at lw_m5 81 rfl) rfl
theorem q1127 : (Jvm.Cond.soleField "ScaleInspection$Visit" "tests") ∈ lw_all := lw_g (lw_at lw_m5 82 rfl) rfl
theorem q1128 : (Jvm.Cond.lays "ScaleInspection$Visit" "ScaleInspection$Visit" "verdict" "I") ∈ lw_all := lw_g (lw_at lw_m5 83 rfl) rfl
theorem q1129 : (Jvm.Cond.soleField "ScaleInspection$Visit" "verdict") ∈ lw_all := lw_g (lw_at lw_m5 84 rfl) rfl
theorem q1130 : (Jvm.Cond.superclass "ScaleInspection$Visit" "java/lang/Object") ∈ lw_all := lw_g (lw_at lw_m5 85 rfl) rfl
theorem q1131 : (Jvm.Cond.methodLink "ScaleInspection$Visit" (37 : Nat) ({ cls := "java/lang/System", name := "arraycopy", desc := "(Ljava/lang/Object;ILjava/lang/Object;II)V" } : Jvm.MethodName)) ∈ lw_all := lw_g (lw_at lw_m5 86 rfl) rfl
theorem q2225 : (Jvm.Cond.castable "ScaleInspection$Visit" "java/lang/Object") ∈ lw_tbl := lw_at lw_m9 220 rfl


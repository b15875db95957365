set_option maxRecDepth 100000
theorem q266 : (Jvm.Cond.sameMethod "[B" "java/lang/Object" "clone" "()Ljava/lang/Object;") ∈ lw_all := lw_g (lw_at lw_m1 181 rfl) rfl
theorem q269 : (Jvm.Cond.selects "[B" ({ cls := "[B", name := "clone", desc := "()Ljava/lang/Object;" } : Jvm.MethodName) ({ cls := "java/lang/Object", name := "clone", desc := "()Ljava/lang/Object;" } : Jvm.MethodName)) ∈ lw_all := lw_g (lw_at lw_m1 184 rfl) rfl
theorem q270 : (Jvm.Cond.castable "[B" "java/lang/Cloneable") ∈ lw_tbl := lw_at lw_m1 185 rfl
theorem q2236 : (Jvm.Cond.castable "[B" "java/lang/Object") ∈ lw_tbl := lw_at lw_m9 231 rfl
theorem q2237 : (Jvm.Cond.castable "[I" "java/lang/Object") ∈ lw_tbl := lw_at lw_m9 232 rfl
theorem q2242 : (Jvm.Cond.castable "[J" "java/lang/Object") ∈ lw_tbl := lw_at lw_m9 237 rfl
theorem q812 : (Jvm.Cond.sameMethod "[LScaleInspection$AccuracyClass;" "java/lang/Object" "clone" "()Ljava/lang/Object;") ∈ lw_all := lw_g (lw_at lw_m4 7 rfl) rfl
theorem q813 : (Jvm.Cond.selects "[LScaleInspection$AccuracyClass;" ({ cls := "[LScaleInspection$AccuracyClass;", name := "clone", desc := "()Ljava/lang/Object;" } : Jvm.MethodName) ({ cls := "java/lang/Object", name := "clone", desc := "()Ljava/lang/Object;" } : Jvm.MethodName)) ∈ lw_all := lw_g (lw_at lw_m4 8 rfl) rfl
theorem q814 : (Jvm.Cond.castable "[LScaleInspection$AccuracyClass;" "java/lang/Cloneable") ∈ lw_tbl := lw_at lw_m4 9 rfl
theorem q2240 : (Jvm.Cond.castable "[LScaleInspection$AccuracyClass;" "java/lang/Object") ∈ lw_tbl := lw_at lw_m9 235 rfl
theorem q2238 : (Jvm.Cond.castable "[LScaleInspection$Entry;" "java/lang/Object") ∈ lw_tbl := lw_at lw_m9 233 rfl
theorem q2239 : (Jvm.Cond.castable "[LScaleInspection$Solver;" "java/lang/Object") ∈ lw_tbl := lw_at lw_m9 234 rfl
theorem q2232 : (Jvm.Cond.sameMethod "[Ljava/lang/Object;" "java/lang/Object" "getClass" "()Ljava/lang/Class;") ∈ lw_all := lw_g (lw_at lw_m9 227 rfl) rfl
theorem q2233 : (Jvm.Cond.selects "[Ljava/lang/Object;" ({ cls := "java/lang/Object", name := "getClass", desc := "()Ljava/lang/Class;" } : Jvm.MethodName) ({ cls := "java/lang/Object", name := "getClass", desc := "()Ljava/lang/Class;" } : Jvm.MethodName)) ∈ lw_all := lw_g (lw_at lw_m9 228 rfl) rfl
theorem q2235 : (Jvm.Cond.castable "[Ljava/lang/Object;" "java/lang/Object") ∈ lw_tbl := lw_at lw_m9 230 rfl
theorem q2241 : (Jvm.Cond.castable "[Z" "java/lang/Object") ∈ lw_tbl := lw_at lw_m9 236 rfl
theorem q115 : (Jvm.Cond.initialized "java/lang/Enum") ∈ lw_all := lw_g (lw_at lw_m1 30 rfl) rfl
theorem q102 : (Jvm.Cond.initialized "java/lang/System") ∈ lw_all := lw_g (lw_at lw_m1 17 rfl) rfl
theorem q276 : (Jvm.Cond.static ({ cls := "java/lang/System", name := "arraycopy", desc := "(Ljava/lang/Object;ILjava/lang/Object;II)V" } : Jvm.MethodName)) ∈ lw_all := lw_g (lw_at lw_m1 191 rfl) rfl
theorem q277 : (Jvm.Cond.native ({ cls := "java/lang/System", name := "arraycopy", desc := "(Ljava/lang/Object;ILjava/lang/Object;II)V" } : Jvm.MethodName)) ∈ lw_all := lw_g (lw_at lw_m1 192 rfl) rfl
theorem q1139 : (Jvm.Cond.interfaceMethod "java/util/Collection" "java/util/Collection" "toArray" "()[Ljava/lang/Object;") ∈ lw_tbl := lw_at lw_m5 94 rfl
theorem q1140 : (Jvm.Cond.declares ({ cls := "java/util/Collection", name := "toArray", desc := "()[Ljava/lang/Object;" } : Jvm.MethodName)) ∈ lw_tbl := lw_at lw_m5 95 rfl
theorem q153 : (Jvm.Cond.arrayOver (Jvm.ClassFile.FieldType.object "java/lang/Object")) ∈ lw_tbl := lw_at lw_m1 68 rfl
theorem q230 : (Jvm.Cond.arrayClass Jvm.ClassFile.FieldType.byte) ∈ lw_all := lw_g (lw_at lw_m1 145 rfl) rfl
theorem q512 : (Jvm.Cond.arrayClass Jvm.ClassFile.FieldType.int) ∈ lw_all := lw_g (lw_at lw_m2 187 rfl) rfl
theorem q532 : (Jvm.Cond.arrayOver (Jvm.ClassFile.FieldType.object "ScaleInspection$Entry")) ∈ lw_tbl := lw_at lw_m2 207 rfl
theorem q534 : (Jvm.Cond.arrayOver (Jvm.ClassFile.FieldType.object "ScaleInspection$Solver")) ∈ lw_tbl := lw_at lw_m2 209 rfl
theorem q815 : (Jvm.Cond.arrayOver (Jvm.ClassFile.FieldType.object "ScaleInspection$AccuracyClass")) ∈ lw_tbl := lw_at lw_m4 10 rfl
theorem q1770 : (Jvm.Cond.arrayClass Jvm.ClassFile.FieldType.boolean) ∈ lw_all := lw_g (lw_at lw_m8 5 rfl) rfl
theorem q2189 : (Jvm.Cond.arrayClass Jvm.ClassFile.FieldType.long) ∈ lw_all := lw_g (lw_at lw_m9 184 rfl) rfl

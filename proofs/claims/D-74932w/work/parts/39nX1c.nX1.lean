set_option maxRecDepth 100000
abbrev cX1_weighingsNeeded : ByteArray := prog_1_method_72_code
def yX1_weighingsNeeded : MethodName := ⟨RX1, "weighingsNeeded", "(I)I"⟩
def dkwX1_weighingsNeeded_2 : List UInt8 := [172]
abbrev dktX1_weighingsNeeded_2 : List UInt8 := dkwX1_weighingsNeeded_2 ++ []
def dkwX1_weighingsNeeded_1 : List UInt8 := [180, 0, 91, 42, 180, 0, 27, 180, 0, 84, 27, 182, 0, 85, 192, 0, 109, 182, 1, 93, 167, 0, 4, 2]
abbrev dktX1_weighingsNeeded_1 : List UInt8 := dkwX1_weighingsNeeded_1 ++ dktX1_weighingsNeeded_2
def dkwX1_weighingsNeeded_0 : List UInt8 := [42, 27, 182, 1, 54, 153, 0, 41, 42, 42, 180, 0, 20, 180, 0, 77, 27, 182, 0, 85, 192, 0, 89]
abbrev dktX1_weighingsNeeded_0 : List UInt8 := dkwX1_weighingsNeeded_0 ++ dktX1_weighingsNeeded_1
theorem dksX1_weighingsNeeded_0 : cX1_weighingsNeeded.data.toList.drop 0 = dktX1_weighingsNeeded_0 := by decide +kernel
theorem dksX1_weighingsNeeded_1 : cX1_weighingsNeeded.data.toList.drop 23 = dktX1_weighingsNeeded_1 := dk_seg dksX1_weighingsNeeded_0 23 rfl rfl
theorem dksX1_weighingsNeeded_2 : cX1_weighingsNeeded.data.toList.drop 47 = dktX1_weighingsNeeded_2 := dk_seg dksX1_weighingsNeeded_1 24 rfl rfl
theorem dX1_weighingsNeeded_0 : decode cX1_weighingsNeeded 0 = .ok (.aload_n 0, 1) := dk_42 (dk_at dksX1_weighingsNeeded_0 0 rfl rfl)
theorem dX1_weighingsNeeded_1 : decode cX1_weighingsNeeded 1 = .ok (.iload_n 1, 1) := dk_27 (dk_at dksX1_weighingsNeeded_0 1 rfl rfl)
theorem dX1_weighingsNeeded_2 : decode cX1_weighingsNeeded 2 = .ok (.invokevirtual 310, 3) := dk_182 1 54 (dk_at dksX1_weighingsNeeded_0 2 rfl rfl)
theorem dX1_weighingsNeeded_5 : decode cX1_weighingsNeeded 5 = .ok (.ifCond .eq 41, 3) := dk_153 0 41 (dk_at dksX1_weighingsNeeded_0 5 rfl rfl)
theorem dX1_weighingsNeeded_8 : decode cX1_weighingsNeeded 8 = .ok (.aload_n 0, 1) := dk_42 (dk_at dksX1_weighingsNeeded_0 8 rfl rfl)
theorem dX1_weighingsNeeded_9 : decode cX1_weighingsNeeded 9 = .ok (.aload_n 0, 1) := dk_42 (dk_at dksX1_weighingsNeeded_0 9 rfl rfl)
theorem dX1_weighingsNeeded_10 : decode cX1_weighingsNeeded 10 = .ok (.getfield 20, 3) := dk_180 0 20 (dk_at dksX1_weighingsNeeded_0 10 rfl rfl)
theorem dX1_weighingsNeeded_13 : decode cX1_weighingsNeeded 13 = .ok (.getfield 77, 3) := dk_180 0 77 (dk_at dksX1_weighingsNeeded_0 13 rfl rfl)
theorem dX1_weighingsNeeded_16 : decode cX1_weighingsNeeded 16 = .ok (.iload_n 1, 1) := dk_27 (dk_at dksX1_weighingsNeeded_0 16 rfl rfl)
theorem dX1_weighingsNeeded_17 : decode cX1_weighingsNeeded 17 = .ok (.invokevirtual 85, 3) := dk_182 0 85 (dk_at dksX1_weighingsNeeded_0 17 rfl rfl)
theorem dX1_weighingsNeeded_20 : decode cX1_weighingsNeeded 20 = .ok (.checkcast 89, 3) := dk_192 0 89 (dk_at dksX1_weighingsNeeded_0 20 rfl rfl)
theorem dX1_weighingsNeeded_23 : decode cX1_weighingsNeeded 23 = .ok (.getfield 91, 3) := dk_180 0 91 (dk_at dksX1_weighingsNeeded_1 0 rfl rfl)
theorem dX1_weighingsNeeded_26 : decode cX1_weighingsNeeded 26 = .ok (.aload_n 0, 1) := dk_42 (dk_at dksX1_weighingsNeeded_1 3 rfl rfl)
theorem dX1_weighingsNeeded_27 : decode cX1_weighingsNeeded 27 = .ok (.getfield 27, 3) := dk_180 0 27 (dk_at dksX1_weighingsNeeded_1 4 rfl rfl)
theorem dX1_weighingsNeeded_30 : decode cX1_weighingsNeeded 30 = .ok (.getfield 84, 3) := dk_180 0 84 (dk_at dksX1_weighingsNeeded_1 7 rfl rfl)
theorem dX1_weighingsNeeded_33 : decode cX1_weighingsNeeded 33 = .ok (.iload_n 1, 1) := dk_27 (dk_at dksX1_weighingsNeeded_1 10 rfl rfl)
theorem dX1_weighingsNeeded_34 : decode cX1_weighingsNeeded 34 = .ok (.invokevirtual 85, 3) := dk_182 0 85 (dk_at dksX1_weighingsNeeded_1 11 rfl rfl)
theorem dX1_weighingsNeeded_37 : decode cX1_weighingsNeeded 37 = .ok (.checkcast 109, 3) := dk_192 0 109 (dk_at dksX1_weighingsNeeded_1 14 rfl rfl)
theorem dX1_weighingsNeeded_40 : decode cX1_weighingsNeeded 40 = .ok (.invokevirtual 349, 3) := dk_182 1 93 (dk_at dksX1_weighingsNeeded_1 17 rfl rfl)
theorem dX1_weighingsNeeded_43 : decode cX1_weighingsNeeded 43 = .ok (.goto 4, 3) := dk_167 0 4 (dk_at dksX1_weighingsNeeded_1 20 rfl rfl)
theorem dX1_weighingsNeeded_46 : decode cX1_weighingsNeeded 46 = .ok (.iconst (-1), 1) := dk_2 (dk_at dksX1_weighingsNeeded_1 23 rfl rfl)
theorem dX1_weighingsNeeded_47 : decode cX1_weighingsNeeded 47 = .ok (.ireturn, 1) := dk_172 (dk_at dksX1_weighingsNeeded_2 0 rfl rfl)
abbrev cX1_neededFor : ByteArray := prog_1_method_71_code
def yX1_neededFor : MethodName := ⟨RX1, "neededFor", "(ILScaleInspection$Hypotheses;)I"⟩
def dkwX1_neededFor_3 : List UInt8 := [172]
abbrev dktX1_neededFor_3 : List UInt8 := dkwX1_neededFor_3 ++ []
def dkwX1_neededFor_2 : List UInt8 := [4, 167, 0, 4, 3, 182, 1, 89, 54, 4, 21, 4, 16, 99, 161, 0, 8, 16, 254, 167, 0, 5, 21, 4]
abbrev dktX1_neededFor_2 : List UInt8 := dkwX1_neededFor_2 ++ dktX1_neededFor_3
def dkwX1_neededFor_1 : List UInt8 := [2, 130, 126, 184, 0, 154, 44, 180, 1, 75, 29, 2, 130, 126, 184, 0, 154, 44, 180, 1, 78, 153, 0, 7]
abbrev dktX1_neededFor_1 : List UInt8 := dkwX1_neededFor_1 ++ dktX1_neededFor_2
def dkwX1_neededFor_0 : List UInt8 := [44, 180, 1, 72, 44, 180, 1, 75, 126, 62, 42, 27, 182, 1, 85, 29, 184, 0, 154, 44, 180, 1, 72, 29]
abbrev dktX1_neededFor_0 : List UInt8 := dkwX1_neededFor_0 ++ dktX1_neededFor_1
theorem dksX1_neededFor_0 : cX1_neededFor.data.toList.drop 0 = dktX1_neededFor_0 := by decide +kernel
theorem dksX1_neededFor_1 : cX1_neededFor.data.toList.drop 24 = dktX1_neededFor_1 := dk_seg dksX1_neededFor_0 24 rfl rfl
theorem dksX1_neededFor_2 : cX1_neededFor.data.toList.drop 48 = dktX1_neededFor_2 := dk_seg dksX1_neededFor_1 24 rfl rfl
theorem dksX1_neededFor_3 : cX1_neededFor.data.toList.drop 72 = dktX1_neededFor_3 := dk_seg dksX1_neededFor_2 24 rfl rfl
theorem dX1_neededFor_0 : decode cX1_neededFor 0 = .ok (.aload_n 2, 1) := dk_44 (dk_at dksX1_neededFor_0 0 rfl rfl)
theorem dX1_neededFor_1 : decode cX1_neededFor 1 = .ok (.getfield 328, 3) := dk_180 1 72 (dk_at dksX1_neededFor_0 1 rfl rfl)
theorem dX1_neededFor_4 : decode cX1_neededFor 4 = .ok (.aload_n 2, 1) := dk_44 (dk_at dksX1_neededFor_0 4 rfl rfl)
theorem dX1_neededFor_5 : decode cX1_neededFor 5 = .ok (.getfield 331, 3) := dk_180 1 75 (dk_at dksX1_neededFor_0 5 rfl rfl)
theorem dX1_neededFor_8 : decode cX1_neededFor 8 = .ok (.iand, 1) := dk_126 (dk_at dksX1_neededFor_0 8 rfl rfl)
theorem dX1_neededFor_9 : decode cX1_neededFor 9 = .ok (.istore_n 3, 1) := dk_62 (dk_at dksX1_neededFor_0 9 rfl rfl)
theorem dX1_neededFor_10 : decode cX1_neededFor 10 = .ok (.aload_n 0, 1) := dk_42 (dk_at dksX1_neededFor_0 10 rfl rfl)
theorem dX1_neededFor_11 : decode cX1_neededFor 11 = .ok (.iload_n 1, 1) := dk_27 (dk_at dksX1_neededFor_0 11 rfl rfl)
theorem dX1_neededFor_12 : decode cX1_neededFor 12 = .ok (.invokevirtual 341, 3) := dk_182 1 85 (dk_at dksX1_neededFor_0 12 rfl rfl)
theorem dX1_neededFor_15 : decode cX1_neededFor 15 = .ok (.iload_n 3, 1) := dk_29 (dk_at dksX1_neededFor_0 15 rfl rfl)
theorem dX1_neededFor_16 : decode cX1_neededFor 16 = .ok (.invokestatic 154, 3) := dk_184 0 154 (dk_at dksX1_neededFor_0 16 rfl rfl)
theorem dX1_neededFor_19 : decode cX1_neededFor 19 = .ok (.aload_n 2, 1) := dk_44 (dk_at dksX1_neededFor_0 19 rfl rfl)
theorem dX1_neededFor_20 : decode cX1_neededFor 20 = .ok (.getfield 328, 3) := dk_180 1 72 (dk_at dksX1_neededFor_0 20 rfl rfl)
theorem dX1_neededFor_23 : decode cX1_neededFor 23 = .ok (.iload_n 3, 1) := dk_29 (dk_at dksX1_neededFor_0 23 rfl rfl)
theorem dX1_neededFor_24 : decode cX1_neededFor 24 = .ok (.iconst (-1), 1) := dk_2 (dk_at dksX1_neededFor_1 0 rfl rfl)
theorem dX1_neededFor_25 : decode cX1_neededFor 25 = .ok (.ixor, 1) := dk_130 (dk_at dksX1_neededFor_1 1 rfl rfl)
theorem dX1_neededFor_26 : decode cX1_neededFor 26 = .ok (.iand, 1) := dk_126 (dk_at dksX1_neededFor_1 2 rfl rfl)
theorem dX1_neededFor_27 : decode cX1_neededFor 27 = .ok (.invokestatic 154, 3) := dk_184 0 154 (dk_at dksX1_neededFor_1 3 rfl rfl)
theorem dX1_neededFor_30 : decode cX1_neededFor 30 = .ok (.aload_n 2, 1) := dk_44 (dk_at dksX1_neededFor_1 6 rfl rfl)
theorem dX1_neededFor_31 : decode cX1_neededFor 31 = .ok (.getfield 331, 3) := dk_180 1 75 (dk_at dksX1_neededFor_1 7 rfl rfl)
theorem dX1_neededFor_34 : decode cX1_neededFor 34 = .ok (.iload_n 3, 1) := dk_29 (dk_at dksX1_neededFor_1 10 rfl rfl)
theorem dX1_neededFor_35 : decode cX1_neededFor 35 = .ok (.iconst (-1), 1) := dk_2 (dk_at dksX1_neededFor_1 11 rfl rfl)
theorem dX1_neededFor_36 : decode cX1_neededFor 36 = .ok (.ixor, 1) := dk_130 (dk_at dksX1_neededFor_1 12 rfl rfl)
theorem dX1_neededFor_37 : decode cX1_neededFor 37 = .ok (.iand, 1) := dk_126 (dk_at dksX1_neededFor_1 13 rfl rfl)
theorem dX1_neededFor_38 : decode cX1_neededFor 38 = .ok (.invokestatic 154, 3) := dk_184 0 154 (dk_at dksX1_neededFor_1 14 rfl rfl)
theorem dX1_neededFor_41 : decode cX1_neededFor 41 = .ok (.aload_n 2, 1) := dk_44 (dk_at dksX1_neededFor_1 17 rfl rfl)
theorem dX1_neededFor_42 : decode cX1_neededFor 42 = .ok (.getfield 334, 3) := dk_180 1 78 (dk_at dksX1_neededFor_1 18 rfl rfl)
theorem dX1_neededFor_45 : decode cX1_neededFor 45 = .ok (.ifCond .eq 7, 3) := dk_153 0 7 (dk_at dksX1_neededFor_1 21 rfl rfl)
theorem dX1_neededFor_48 : decode cX1_neededFor 48 = .ok (.iconst 1, 1) := dk_4 (dk_at dksX1_neededFor_2 0 rfl rfl)
theorem dX1_neededFor_49 : decode cX1_neededFor 49 = .ok (.goto 4, 3) := dk_167 0 4 (dk_at dksX1_neededFor_2 1 rfl rfl)
theorem dX1_neededFor_52 : decode cX1_neededFor 52 = .ok (.iconst 0, 1) := dk_3 (dk_at dksX1_neededFor_2 4 rfl rfl)
theorem dX1_neededFor_53 : decode cX1_neededFor 53 = .ok (.invokevirtual 345, 3) := dk_182 1 89 (dk_at dksX1_neededFor_2 5 rfl rfl)
theorem dX1_neededFor_56 : decode cX1_neededFor 56 = .ok (.istore 4, 2) := dk_54 4 (dk_at dksX1_neededFor_2 8 rfl rfl)
theorem dX1_neededFor_58 : decode cX1_neededFor 58 = .ok (.iload 4, 2) := dk_21 4 (dk_at dksX1_neededFor_2 10 rfl rfl)
theorem dX1_neededFor_60 : decode cX1_neededFor 60 = .ok (.bipush 99, 2) := dk_16 99 (dk_at dksX1_neededFor_2 12 rfl rfl)
theorem dX1_neededFor_62 : decode cX1_neededFor 62 = .ok (.if_icmp .lt 8, 3) := dk_161 0 8 (dk_at dksX1_neededFor_2 14 rfl rfl)
theorem dX1_neededFor_65 : decode cX1_neededFor 65 = .ok (.bipush (-2), 2) := dk_16 254 (dk_at dksX1_neededFor_2 17 rfl rfl)
theorem dX1_neededFor_67 : decode cX1_neededFor 67 = .ok (.goto 5, 3) := dk_167 0 5 (dk_at dksX1_neededFor_2 19 rfl rfl)
theorem dX1_neededFor_70 : decode cX1_neededFor 70 = .ok (.iload 4, 2) := dk_21 4 (dk_at dksX1_neededFor_2 22 rfl rfl)
theorem dX1_neededFor_72 : decode cX1_neededFor 72 = .ok (.ireturn, 1) := dk_172 (dk_at dksX1_neededFor_3 0 rfl rfl)
abbrev cX1_solver : ByteArray := prog_1_method_70_code
def yX1_solver : MethodName := ⟨RX1, "solver", "(I)LScaleInspection$Solver;"⟩
def dkwX1_solver_1 : List UInt8 := [180, 0, 46, 27, 50, 176]
abbrev dktX1_solver_1 : List UInt8 := dkwX1_solver_1 ++ []
def dkwX1_solver_0 : List UInt8 := [42, 180, 0, 46, 27, 50, 199, 0, 17, 42, 180, 0, 46, 27, 187, 0, 44, 89, 27, 183, 1, 84, 83, 42]
abbrev dktX1_solver_0 : List UInt8 := dkwX1_solver_0 ++ dktX1_solver_1
theorem dksX1_solver_0 : cX1_solver.data.toList.drop 0 = dktX1_solver_0 := by decide +kernel
theorem dksX1_solver_1 : cX1_solver.data.toList.drop 24 = dktX1_solver_1 := dk_seg dksX1_solver_0 24 rfl rfl
theorem dX1_solver_0 : decode cX1_solver 0 = .ok (.aload_n 0, 1) := dk_42 (dk_at dksX1_solver_0 0 rfl rfl)
theorem dX1_solver_1 : decode cX1_solver 1 = .ok (.getfield 46, 3) := dk_180 0 46 (dk_at dksX1_solver_0 1 rfl rfl)
theorem dX1_solver_4 : decode cX1_solver 4 = .ok (.iload_n 1, 1) := dk_27 (dk_at dksX1_solver_0 4 rfl rfl)
theorem dX1_solver_5 : decode cX1_solver 5 = .ok (.aaload, 1) := dk_50 (dk_at dksX1_solver_0 5 rfl rfl)
theorem dX1_solver_6 : decode cX1_solver 6 = .ok (.ifnonnull 17, 3) := dk_199 0 17 (dk_at dksX1_solver_0 6 rfl rfl)
theorem dX1_solver_9 : decode cX1_solver 9 = .ok (.aload_n 0, 1) := dk_42 (dk_at dksX1_solver_0 9 rfl rfl)
theorem dX1_solver_10 : decode cX1_solver 10 = .ok (.getfield 46, 3) := dk_180 0 46 (dk_at dksX1_solver_0 10 rfl rfl)
theorem dX1_solver_13 : decode cX1_solver 13 = .ok (.iload_n 1, 1) := dk_27 (dk_at dksX1_solver_0 13 rfl rfl)
theorem dX1_solver_14 : decode cX1_solver 14 = .ok (.new 44, 3) := dk_187 0 44 (dk_at dksX1_solver_0 14 rfl rfl)
theorem dX1_solver_17 : decode cX1_solver 17 = .ok (.dup, 1) := dk_89 (dk_at dksX1_solver_0 17 rfl rfl)
theorem dX1_solver_18 : decode cX1_solver 18 = .ok (.iload_n 1, 1) := dk_27 (dk_at dksX1_solver_0 18 rfl rfl)
theorem dX1_solver_19 : decode cX1_solver 19 = .ok (.invokespecial 340, 3) := dk_183 1 84 (dk_at dksX1_solver_0 19 rfl rfl)
theorem dX1_solver_22 : decode cX1_solver 22 = .ok (.aastore, 1) := dk_83 (dk_at dksX1_solver_0 22 rfl rfl)
theorem dX1_solver_23 : decode cX1_solver 23 = .ok (.aload_n 0, 1) := dk_42 (dk_at dksX1_solver_0 23 rfl rfl)
theorem dX1_solver_24 : decode cX1_solver 24 = .ok (.getfield 46, 3) := dk_180 0 46 (dk_at dksX1_solver_1 0 rfl rfl)
theorem dX1_solver_27 : decode cX1_solver 27 = .ok (.iload_n 1, 1) := dk_27 (dk_at dksX1_solver_1 3 rfl rfl)
theorem dX1_solver_28 : decode cX1_solver 28 = .ok (.aaload, 1) := dk_50 (dk_at dksX1_solver_1 4 rfl rfl)
theorem dX1_solver_29 : decode cX1_solver 29 = .ok (.areturn, 1) := dk_176 (dk_at dksX1_solver_1 5 rfl rfl)
abbrev cX1_fewestWeighings : ByteArray := prog_1_method_73_code
def yX1_fewestWeighings : MethodName := ⟨RX1, "fewestWeighings", "(IZ)I"⟩
def dkwX1_fewestWeighings_1 : List UInt8 := [167, 0, 4, 2, 172]
abbrev dktX1_fewestWeighings_1 : List UInt8 := dkwX1_fewestWeighings_1 ++ []
def dkwX1_fewestWeighings_0 : List UInt8 := [27, 133, 20, 1, 57, 20, 1, 97, 184, 0, 56, 153, 0, 16, 42, 27, 27, 28, 184, 0, 98, 182, 1, 93]
abbrev dktX1_fewestWeighings_0 : List UInt8 := dkwX1_fewestWeighings_0 ++ dktX1_fewestWeighings_1
theorem dksX1_fewestWeighings_0 : cX1_fewestWeighings.data.toList.drop 0 = dktX1_fewestWeighings_0 := by decide +kernel
theorem dksX1_fewestWeighings_1 : cX1_fewestWeighings.data.toList.drop 24 = dktX1_fewestWeighings_1 := dk_seg dksX1_fewestWeighings_0 24 rfl rfl
theorem dX1_fewestWeighings_0 : decode cX1_fewestWeighings 0 = .ok (.iload_n 1, 1) := dk_27 (dk_at dksX1_fewestWeighings_0 0 rfl rfl)
theorem dX1_fewestWeighings_1 : decode cX1_fewestWeighings 1 = .ok (.i2l, 1) := dk_133 (dk_at dksX1_fewestWeighings_0 1 rfl rfl)
theorem dX1_fewestWeighings_2 : decode cX1_fewestWeighings 2 = .ok (.ldc2_w 313, 3) := dk_20 1 57 (dk_at dksX1_fewestWeighings_0 2 rfl rfl)
theorem dX1_fewestWeighings_5 : decode cX1_fewestWeighings 5 = .ok (.ldc2_w 353, 3) := dk_20 1 97 (dk_at dksX1_fewestWeighings_0 5 rfl rfl)
theorem dX1_fewestWeighings_8 : decode cX1_fewestWeighings 8 = .ok (.invokestatic 56, 3) := dk_184 0 56 (dk_at dksX1_fewestWeighings_0 8 rfl rfl)
theorem dX1_fewestWeighings_11 : decode cX1_fewestWeighings 11 = .ok (.ifCond .eq 16, 3) := dk_153 0 16 (dk_at dksX1_fewestWeighings_0 11 rfl rfl)
theorem dX1_fewestWeighings_14 : decode cX1_fewestWeighings 14 = .ok (.aload_n 0, 1) := dk_42 (dk_at dksX1_fewestWeighings_0 14 rfl rfl)
theorem dX1_fewestWeighings_15 : decode cX1_fewestWeighings 15 = .ok (.iload_n 1, 1) := dk_27 (dk_at dksX1_fewestWeighings_0 15 rfl rfl)
theorem dX1_fewestWeighings_16 : decode cX1_fewestWeighings 16 = .ok (.iload_n 1, 1) := dk_27 (dk_at dksX1_fewestWeighings_0 16 rfl rfl)
theorem dX1_fewestWeighings_17 : decode cX1_fewestWeighings 17 = .ok (.iload_n 2, 1) := dk_28 (dk_at dksX1_fewestWeighings_0 17 rfl rfl)
theorem dX1_fewestWeighings_18 : decode cX1_fewestWeighings 18 = .ok (.invokestatic 98, 3) := dk_184 0 98 (dk_at dksX1_fewestWeighings_0 18 rfl rfl)
theorem dX1_fewestWeighings_21 : decode cX1_fewestWeighings 21 = .ok (.invokevirtual 349, 3) := dk_182 1 93 (dk_at dksX1_fewestWeighings_0 21 rfl rfl)
theorem dX1_fewestWeighings_24 : decode cX1_fewestWeighings 24 = .ok (.goto 4, 3) := dk_167 0 4 (dk_at dksX1_fewestWeighings_1 0 rfl rfl)
theorem dX1_fewestWeighings_27 : decode cX1_fewestWeighings 27 = .ok (.iconst (-1), 1) := dk_2 (dk_at dksX1_fewestWeighings_1 3 rfl rfl)
theorem dX1_fewestWeighings_28 : decode cX1_fewestWeighings 28 = .ok (.ireturn, 1) := dk_172 (dk_at dksX1_fewestWeighings_1 4 rfl rfl)
abbrev cX1_bestLeft : ByteArray := prog_1_method_75_code
def yX1_bestLeft : MethodName := ⟨RX1, "bestLeft", "(I)I"⟩
def dkwX1_bestLeft_2 : List UInt8 := [180, 1, 104, 167, 0, 4, 2, 172]
abbrev dktX1_bestLeft_2 : List UInt8 := dkwX1_bestLeft_2 ++ []
def dkwX1_bestLeft_1 : List UInt8 := [192, 0, 89, 180, 0, 91, 42, 180, 0, 27, 180, 0, 84, 27, 182, 0, 85, 192, 0, 109, 183, 1, 101]
abbrev dktX1_bestLeft_1 : List UInt8 := dkwX1_bestLeft_1 ++ dktX1_bestLeft_2
def dkwX1_bestLeft_0 : List UInt8 := [42, 27, 182, 1, 54, 153, 0, 48, 187, 1, 99, 89, 42, 42, 180, 0, 20, 180, 0, 77, 27, 182, 0, 85]
abbrev dktX1_bestLeft_0 : List UInt8 := dkwX1_bestLeft_0 ++ dktX1_bestLeft_1
theorem dksX1_bestLeft_0 : cX1_bestLeft.data.toList.drop 0 = dktX1_bestLeft_0 := by decide +kernel
theorem dksX1_bestLeft_1 : cX1_bestLeft.data.toList.drop 24 = dktX1_bestLeft_1 := dk_seg dksX1_bestLeft_0 24 rfl rfl
theorem dksX1_bestLeft_2 : cX1_bestLeft.data.toList.drop 47 = dktX1_bestLeft_2 := dk_seg dksX1_bestLeft_1 23 rfl rfl
theorem dX1_bestLeft_0 : decode cX1_bestLeft 0 = .ok (.aload_n 0, 1) := dk_42 (dk_at dksX1_bestLeft_0 0 rfl rfl)
theorem dX1_bestLeft_1 : decode cX1_bestLeft 1 = .ok (.iload_n 1, 1) := dk_27 (dk_at dksX1_bestLeft_0 1 rfl rfl)
theorem dX1_bestLeft_2 : decode cX1_bestLeft 2 = .ok (.invokevirtual 310, 3) := dk_182 1 54 (dk_at dksX1_bestLeft_0 2 rfl rfl)
theorem dX1_bestLeft_5 : decode cX1_bestLeft 5 = .ok (.ifCond .eq 48, 3) := dk_153 0 48 (dk_at dksX1_bestLeft_0 5 rfl rfl)
theorem dX1_bestLeft_8 : decode cX1_bestLeft 8 = .ok (.new 355, 3) := dk_187 1 99 (dk_at dksX1_bestLeft_0 8 rfl rfl)
theorem dX1_bestLeft_11 : decode cX1_bestLeft 11 = .ok (.dup, 1) := dk_89 (dk_at dksX1_bestLeft_0 11 rfl rfl)
theorem dX1_bestLeft_12 : decode cX1_bestLeft 12 = .ok (.aload_n 0, 1) := dk_42 (dk_at dksX1_bestLeft_0 12 rfl rfl)
theorem dX1_bestLeft_13 : decode cX1_bestLeft 13 = .ok (.aload_n 0, 1) := dk_42 (dk_at dksX1_bestLeft_0 13 rfl rfl)
theorem dX1_bestLeft_14 : decode cX1_bestLeft 14 = .ok (.getfield 20, 3) := dk_180 0 20 (dk_at dksX1_bestLeft_0 14 rfl rfl)
theorem dX1_bestLeft_17 : decode cX1_bestLeft 17 = .ok (.getfield 77, 3) := dk_180 0 77 (dk_at dksX1_bestLeft_0 17 rfl rfl)
theorem dX1_bestLeft_20 : decode cX1_bestLeft 20 = .ok (.iload_n 1, 1) := dk_27 (dk_at dksX1_bestLeft_0 20 rfl rfl)
theorem dX1_bestLeft_21 : decode cX1_bestLeft 21 = .ok (.invokevirtual 85, 3) := dk_182 0 85 (dk_at dksX1_bestLeft_0 21 rfl rfl)
theorem dX1_bestLeft_24 : decode cX1_bestLeft 24 = .ok (.checkcast 89, 3) := dk_192 0 89 (dk_at dksX1_bestLeft_1 0 rfl rfl)
theorem dX1_bestLeft_27 : decode cX1_bestLeft 27 = .ok (.getfield 91, 3) := dk_180 0 91 (dk_at dksX1_bestLeft_1 3 rfl rfl)
theorem dX1_bestLeft_30 : decode cX1_bestLeft 30 = .ok (.aload_n 0, 1) := dk_42 (dk_at dksX1_bestLeft_1 6 rfl rfl)
theorem dX1_bestLeft_31 : decode cX1_bestLeft 31 = .ok (.getfield 27, 3) := dk_180 0 27 (dk_at dksX1_bestLeft_1 7 rfl rfl)
theorem dX1_bestLeft_34 : decode cX1_bestLeft 34 = .ok (.getfield 84, 3) := dk_180 0 84 (dk_at dksX1_bestLeft_1 10 rfl rfl)
theorem dX1_bestLeft_37 : decode cX1_bestLeft 37 = .ok (.iload_n 1, 1) := dk_27 (dk_at dksX1_bestLeft_1 13 rfl rfl)
theorem dX1_bestLeft_38 : decode cX1_bestLeft 38 = .ok (.invokevirtual 85, 3) := dk_182 0 85 (dk_at dksX1_bestLeft_1 14 rfl rfl)
theorem dX1_bestLeft_41 : decode cX1_bestLeft 41 = .ok (.checkcast 109, 3) := dk_192 0 109 (dk_at dksX1_bestLeft_1 17 rfl rfl)
theorem dX1_bestLeft_44 : decode cX1_bestLeft 44 = .ok (.invokespecial 357, 3) := dk_183 1 101 (dk_at dksX1_bestLeft_1 20 rfl rfl)
theorem dX1_bestLeft_47 : decode cX1_bestLeft 47 = .ok (.getfield 360, 3) := dk_180 1 104 (dk_at dksX1_bestLeft_2 0 rfl rfl)
theorem dX1_bestLeft_50 : decode cX1_bestLeft 50 = .ok (.goto 4, 3) := dk_167 0 4 (dk_at dksX1_bestLeft_2 3 rfl rfl)
theorem dX1_bestLeft_53 : decode cX1_bestLeft 53 = .ok (.iconst (-1), 1) := dk_2 (dk_at dksX1_bestLeft_2 6 rfl rfl)
theorem dX1_bestLeft_54 : decode cX1_bestLeft 54 = .ok (.ireturn, 1) := dk_172 (dk_at dksX1_bestLeft_2 7 rfl rfl)
abbrev cX1_lowest : ByteArray := prog_1_method_74_code
def yX1_lowest : MethodName := ⟨RX1, "lowest", "(II)I"⟩
def dkwX1_lowest_1 : List UInt8 := [126, 61, 132, 4, 1, 167, 255, 234, 29, 172]
abbrev dktX1_lowest_1 : List UInt8 := dkwX1_lowest_1 ++ []
def dkwX1_lowest_0 : List UInt8 := [26, 61, 3, 62, 3, 54, 4, 21, 4, 27, 162, 0, 22, 29, 28, 28, 116, 126, 128, 62, 28, 28, 4, 100]
abbrev dktX1_lowest_0 : List UInt8 := dkwX1_lowest_0 ++ dktX1_lowest_1
theorem dksX1_lowest_0 : cX1_lowest.data.toList.drop 0 = dktX1_lowest_0 := by decide +kernel
theorem dksX1_lowest_1 : cX1_lowest.data.toList.drop 24 = dktX1_lowest_1 := dk_seg dksX1_lowest_0 24 rfl rfl
theorem dX1_lowest_0 : decode cX1_lowest 0 = .ok (.iload_n 0, 1) := dk_26 (dk_at dksX1_lowest_0 0 rfl rfl)
theorem dX1_lowest_1 : decode cX1_lowest 1 = .ok (.istore_n 2, 1) := dk_61 (dk_at dksX1_lowest_0 1 rfl rfl)
theorem dX1_lowest_2 : decode cX1_lowest 2 = .ok (.iconst 0, 1) := dk_3 (dk_at dksX1_lowest_0 2 rfl rfl)
theorem dX1_lowest_3 : decode cX1_lowest 3 = .ok (.istore_n 3, 1) := dk_62 (dk_at dksX1_lowest_0 3 rfl rfl)
theorem dX1_lowest_4 : decode cX1_lowest 4 = .ok (.iconst 0, 1) := dk_3 (dk_at dksX1_lowest_0 4 rfl rfl)
theorem dX1_lowest_5 : decode cX1_lowest 5 = .ok (.istore 4, 2) := dk_54 4 (dk_at dksX1_lowest_0 5 rfl rfl)
theorem dX1_lowest_7 : decode cX1_lowest 7 = .ok (.iload 4, 2) := dk_21 4 (dk_at dksX1_lowest_0 7 rfl rfl)
theorem dX1_lowest_9 : decode cX1_lowest 9 = .ok (.iload_n 1, 1) := dk_27 (dk_at dksX1_lowest_0 9 rfl rfl)
theorem dX1_lowest_10 : decode cX1_lowest 10 = .ok (.if_icmp .ge 22, 3) := dk_162 0 22 (dk_at dksX1_lowest_0 10 rfl rfl)
theorem dX1_lowest_13 : decode cX1_lowest 13 = .ok (.iload_n 3, 1) := dk_29 (dk_at dksX1_lowest_0 13 rfl rfl)
theorem dX1_lowest_14 : decode cX1_lowest 14 = .ok (.iload_n 2, 1) := dk_28 (dk_at dksX1_lowest_0 14 rfl rfl)
theorem dX1_lowest_15 : decode cX1_lowest 15 = .ok (.iload_n 2, 1) := dk_28 (dk_at dksX1_lowest_0 15 rfl rfl)
theorem dX1_lowest_16 : decode cX1_lowest 16 = .ok (.ineg, 1) := dk_116 (dk_at dksX1_lowest_0 16 rfl rfl)
theorem dX1_lowest_17 : decode cX1_lowest 17 = .ok (.iand, 1) := dk_126 (dk_at dksX1_lowest_0 17 rfl rfl)
theorem dX1_lowest_18 : decode cX1_lowest 18 = .ok (.ior, 1) := dk_128 (dk_at dksX1_lowest_0 18 rfl rfl)
theorem dX1_lowest_19 : decode cX1_lowest 19 = .ok (.istore_n 3, 1) := dk_62 (dk_at dksX1_lowest_0 19 rfl rfl)
theorem dX1_lowest_20 : decode cX1_lowest 20 = .ok (.iload_n 2, 1) := dk_28 (dk_at dksX1_lowest_0 20 rfl rfl)
theorem dX1_lowest_21 : decode cX1_lowest 21 = .ok (.iload_n 2, 1) := dk_28 (dk_at dksX1_lowest_0 21 rfl rfl)
theorem dX1_lowest_22 : decode cX1_lowest 22 = .ok (.iconst 1, 1) := dk_4 (dk_at dksX1_lowest_0 22 rfl rfl)
theorem dX1_lowest_23 : decode cX1_lowest 23 = .ok (.isub, 1) := dk_100 (dk_at dksX1_lowest_0 23 rfl rfl)
theorem dX1_lowest_24 : decode cX1_lowest 24 = .ok (.iand, 1) := dk_126 (dk_at dksX1_lowest_1 0 rfl rfl)
theorem dX1_lowest_25 : decode cX1_lowest 25 = .ok (.istore_n 2, 1) := dk_61 (dk_at dksX1_lowest_1 1 rfl rfl)
theorem dX1_lowest_26 : decode cX1_lowest 26 = .ok (.iinc 4 1, 3) := dk_132 4 1 (dk_at dksX1_lowest_1 2 rfl rfl)
theorem dX1_lowest_29 : decode cX1_lowest 29 = .ok (.goto (-22), 3) := dk_167 255 234 (dk_at dksX1_lowest_1 5 rfl rfl)
theorem dX1_lowest_32 : decode cX1_lowest 32 = .ok (.iload_n 3, 1) := dk_29 (dk_at dksX1_lowest_1 8 rfl rfl)
theorem dX1_lowest_33 : decode cX1_lowest 33 = .ok (.ireturn, 1) := dk_172 (dk_at dksX1_lowest_1 9 rfl rfl)
abbrev cX1_bestRight : ByteArray := prog_1_method_76_code
def yX1_bestRight : MethodName := ⟨RX1, "bestRight", "(I)I"⟩
def dkwX1_bestRight_2 : List UInt8 := [180, 1, 107, 167, 0, 4, 2, 172]
abbrev dktX1_bestRight_2 : List UInt8 := dkwX1_bestRight_2 ++ []
def dkwX1_bestRight_1 : List UInt8 := [192, 0, 89, 180, 0, 91, 42, 180, 0, 27, 180, 0, 84, 27, 182, 0, 85, 192, 0, 109, 183, 1, 101]
abbrev dktX1_bestRight_1 : List UInt8 := dkwX1_bestRight_1 ++ dktX1_bestRight_2
def dkwX1_bestRight_0 : List UInt8 := [42, 27, 182, 1, 54, 153, 0, 48, 187, 1, 99, 89, 42, 42, 180, 0, 20, 180, 0, 77, 27, 182, 0, 85]
abbrev dktX1_bestRight_0 : List UInt8 := dkwX1_bestRight_0 ++ dktX1_bestRight_1
theorem dksX1_bestRight_0 : cX1_bestRight.data.toList.drop 0 = dktX1_bestRight_0 := by decide +kernel
theorem dksX1_bestRight_1 : cX1_bestRight.data.toList.drop 24 = dktX1_bestRight_1 := dk_seg dksX1_bestRight_0 24 rfl rfl
theorem dksX1_bestRight_2 : cX1_bestRight.data.toList.drop 47 = dktX1_bestRight_2 := dk_seg dksX1_bestRight_1 23 rfl rfl
theorem dX1_bestRight_0 : decode cX1_bestRight 0 = .ok (.aload_n 0, 1) := dk_42 (dk_at dksX1_bestRight_0 0 rfl rfl)
theorem dX1_bestRight_1 : decode cX1_bestRight 1 = .ok (.iload_n 1, 1) := dk_27 (dk_at dksX1_bestRight_0 1 rfl rfl)
theorem dX1_bestRight_2 : decode cX1_bestRight 2 = .ok (.invokevirtual 310, 3) := dk_182 1 54 (dk_at dksX1_bestRight_0 2 rfl rfl)
theorem dX1_bestRight_5 : decode cX1_bestRight 5 = .ok (.ifCond .eq 48, 3) := dk_153 0 48 (dk_at dksX1_bestRight_0 5 rfl rfl)
theorem dX1_bestRight_8 : decode cX1_bestRight 8 = .ok (.new 355, 3) := dk_187 1 99 (dk_at dksX1_bestRight_0 8 rfl rfl)
theorem dX1_bestRight_11 : decode cX1_bestRight 11 = .ok (.dup, 1) := dk_89 (dk_at dksX1_bestRight_0 11 rfl rfl)
theorem dX1_bestRight_12 : decode cX1_bestRight 12 = .ok (.aload_n 0, 1) := dk_42 (dk_at dksX1_bestRight_0 12 rfl rfl)
theorem dX1_bestRight_13 : decode cX1_bestRight 13 = .ok (.aload_n 0, 1) := dk_42 (dk_at dksX1_bestRight_0 13 rfl rfl)
theorem dX1_bestRight_14 : decode cX1_bestRight 14 = .ok (.getfield 20, 3) := dk_180 0 20 (dk_at dksX1_bestRight_0 14 rfl rfl)
theorem dX1_bestRight_17 : decode cX1_bestRight 17 = .ok (.getfield 77, 3) := dk_180 0 77 (dk_at dksX1_bestRight_0 17 rfl rfl)
theorem dX1_bestRight_20 : decode cX1_bestRight 20 = .ok (.iload_n 1, 1) := dk_27 (dk_at dksX1_bestRight_0 20 rfl rfl)
theorem dX1_bestRight_21 : decode cX1_bestRight 21 = .ok (.invokevirtual 85, 3) := dk_182 0 85 (dk_at dksX1_bestRight_0 21 rfl rfl)
theorem dX1_bestRight_24 : decode cX1_bestRight 24 = .ok (.checkcast 89, 3) := dk_192 0 89 (dk_at dksX1_bestRight_1 0 rfl rfl)
theorem dX1_bestRight_27 : decode cX1_bestRight 27 = .ok (.getfield 91, 3) := dk_180 0 91 (dk_at dksX1_bestRight_1 3 rfl rfl)
theorem dX1_bestRight_30 : decode cX1_bestRight 30 = .ok (.aload_n 0, 1) := dk_42 (dk_at dksX1_bestRight_1 6 rfl rfl)
theorem dX1_bestRight_31 : decode cX1_bestRight 31 = .ok (.getfield 27, 3) := dk_180 0 27 (dk_at dksX1_bestRight_1 7 rfl rfl)
theorem dX1_bestRight_34 : decode cX1_bestRight 34 = .ok (.getfield 84, 3) := dk_180 0 84 (dk_at dksX1_bestRight_1 10 rfl rfl)
theorem dX1_bestRight_37 : decode cX1_bestRight 37 = .ok (.iload_n 1, 1) := dk_27 (dk_at dksX1_bestRight_1 13 rfl rfl)
theorem dX1_bestRight_38 : decode cX1_bestRight 38 = .ok (.invokevirtual 85, 3) := dk_182 0 85 (dk_at dksX1_bestRight_1 14 rfl rfl)
theorem dX1_bestRight_41 : decode cX1_bestRight 41 = .ok (.checkcast 109, 3) := dk_192 0 109 (dk_at dksX1_bestRight_1 17 rfl rfl)
theorem dX1_bestRight_44 : decode cX1_bestRight 44 = .ok (.invokespecial 357, 3) := dk_183 1 101 (dk_at dksX1_bestRight_1 20 rfl rfl)
theorem dX1_bestRight_47 : decode cX1_bestRight 47 = .ok (.getfield 363, 3) := dk_180 1 107 (dk_at dksX1_bestRight_2 0 rfl rfl)
theorem dX1_bestRight_50 : decode cX1_bestRight 50 = .ok (.goto 4, 3) := dk_167 0 4 (dk_at dksX1_bestRight_2 3 rfl rfl)
theorem dX1_bestRight_53 : decode cX1_bestRight 53 = .ok (.iconst (-1), 1) := dk_2 (dk_at dksX1_bestRight_2 6 rfl rfl)
theorem dX1_bestRight_54 : decode cX1_bestRight 54 = .ok (.ireturn, 1) := dk_172 (dk_at dksX1_bestRight_2 7 rfl rfl)
abbrev cX1_undo : ByteArray := prog_1_method_77_code
def yX1_undo : MethodName := ⟨RX1, "undo", "()Z"⟩
def dkwX1_undo_1 : List UInt8 := [4, 100, 182, 0, 187, 192, 0, 24, 181, 0, 27, 4, 172]
abbrev dktX1_undo_1 : List UInt8 := dkwX1_undo_1 ++ []
def dkwX1_undo_0 : List UInt8 := [42, 180, 0, 36, 182, 1, 110, 153, 0, 5, 3, 172, 42, 42, 180, 0, 36, 42, 180, 0, 36, 182, 0, 80]
abbrev dktX1_undo_0 : List UInt8 := dkwX1_undo_0 ++ dktX1_undo_1
theorem dksX1_undo_0 : cX1_undo.data.toList.drop 0 = dktX1_undo_0 := by decide +kernel
theorem dksX1_undo_1 : cX1_undo.data.toList.drop 24 = dktX1_undo_1 := dk_seg dksX1_undo_0 24 rfl rfl
theorem dX1_undo_0 : decode cX1_undo 0 = .ok (.aload_n 0, 1) := dk_42 (dk_at dksX1_undo_0 0 rfl rfl)
theorem dX1_undo_1 : decode cX1_undo 1 = .ok (.getfield 36, 3) := dk_180 0 36 (dk_at dksX1_undo_0 1 rfl rfl)
theorem dX1_undo_4 : decode cX1_undo 4 = .ok (.invokevirtual 366, 3) := dk_182 1 110 (dk_at dksX1_undo_0 4 rfl rfl)
theorem dX1_undo_7 : decode cX1_undo 7 = .ok (.ifCond .eq 5, 3) := dk_153 0 5 (dk_at dksX1_undo_0 7 rfl rfl)
theorem dX1_undo_10 : decode cX1_undo 10 = .ok (.iconst 0, 1) := dk_3 (dk_at dksX1_undo_0 10 rfl rfl)
theorem dX1_undo_11 : decode cX1_undo 11 = .ok (.ireturn, 1) := dk_172 (dk_at dksX1_undo_0 11 rfl rfl)
theorem dX1_undo_12 : decode cX1_undo 12 = .ok (.aload_n 0, 1) := dk_42 (dk_at dksX1_undo_0 12 rfl rfl)
theorem dX1_undo_13 : decode cX1_undo 13 = .ok (.aload_n 0, 1) := dk_42 (dk_at dksX1_undo_0 13 rfl rfl)
theorem dX1_undo_14 : decode cX1_undo 14 = .ok (.getfield 36, 3) := dk_180 0 36 (dk_at dksX1_undo_0 14 rfl rfl)
theorem dX1_undo_17 : decode cX1_undo 17 = .ok (.aload_n 0, 1) := dk_42 (dk_at dksX1_undo_0 17 rfl rfl)
theorem dX1_undo_18 : decode cX1_undo 18 = .ok (.getfield 36, 3) := dk_180 0 36 (dk_at dksX1_undo_0 18 rfl rfl)
theorem dX1_undo_21 : decode cX1_undo 21 = .ok (.invokevirtual 80, 3) := dk_182 0 80 (dk_at dksX1_undo_0 21 rfl rfl)
theorem dX1_undo_24 : decode cX1_undo 24 = .ok (.iconst 1, 1) := dk_4 (dk_at dksX1_undo_1 0 rfl rfl)
theorem dX1_undo_25 : decode cX1_undo 25 = .ok (.isub, 1) := dk_100 (dk_at dksX1_undo_1 1 rfl rfl)
theorem dX1_undo_26 : decode cX1_undo 26 = .ok (.invokevirtual 187, 3) := dk_182 0 187 (dk_at dksX1_undo_1 2 rfl rfl)
theorem dX1_undo_29 : decode cX1_undo 29 = .ok (.checkcast 24, 3) := dk_192 0 24 (dk_at dksX1_undo_1 5 rfl rfl)
theorem dX1_undo_32 : decode cX1_undo 32 = .ok (.putfield 27, 3) := dk_181 0 27 (dk_at dksX1_undo_1 8 rfl rfl)
theorem dX1_undo_35 : decode cX1_undo 35 = .ok (.iconst 1, 1) := dk_4 (dk_at dksX1_undo_1 11 rfl rfl)
theorem dX1_undo_36 : decode cX1_undo 36 = .ok (.ireturn, 1) := dk_172 (dk_at dksX1_undo_1 12 rfl rfl)
abbrev cX1_undoDepth : ByteArray := prog_1_method_78_code
def yX1_undoDepth : MethodName := ⟨RX1, "undoDepth", "()I"⟩
def dkwX1_undoDepth_0 : List UInt8 := [42, 180, 0, 36, 182, 0, 80, 172]
abbrev dktX1_undoDepth_0 : List UInt8 := dkwX1_undoDepth_0 ++ []
theorem dksX1_undoDepth_0 : cX1_undoDepth.data.toList.drop 0 = dktX1_undoDepth_0 := by decide +kernel
theorem dX1_undoDepth_0 : decode cX1_undoDepth 0 = .ok (.aload_n 0, 1) := dk_42 (dk_at dksX1_undoDepth_0 0 rfl rfl)
theorem dX1_undoDepth_1 : decode cX1_undoDepth 1 = .ok (.getfield 36, 3) := dk_180 0 36 (dk_at dksX1_undoDepth_0 1 rfl rfl)
theorem dX1_undoDepth_4 : decode cX1_undoDepth 4 = .ok (.invokevirtual 80, 3) := dk_182 0 80 (dk_at dksX1_undoDepth_0 4 rfl rfl)
theorem dX1_undoDepth_7 : decode cX1_undoDepth 7 = .ok (.ireturn, 1) := dk_172 (dk_at dksX1_undoDepth_0 7 rfl rfl)
abbrev cX1_saveSnapshot : ByteArray := prog_1_method_79_code
def yX1_saveSnapshot : MethodName := ⟨RX1, "saveSnapshot", "(I)Z"⟩
def dkwX1_saveSnapshot_1 : List UInt8 := [83, 4, 172]
abbrev dktX1_saveSnapshot_1 : List UInt8 := dkwX1_saveSnapshot_1 ++ []
def dkwX1_saveSnapshot_0 : List UInt8 := [27, 133, 9, 10, 184, 0, 56, 154, 0, 5, 3, 172, 42, 180, 0, 40, 27, 42, 180, 0, 27, 182, 0, 190]
abbrev dktX1_saveSnapshot_0 : List UInt8 := dkwX1_saveSnapshot_0 ++ dktX1_saveSnapshot_1
theorem dksX1_saveSnapshot_0 : cX1_saveSnapshot.data.toList.drop 0 = dktX1_saveSnapshot_0 := by decide +kernel
theorem dksX1_saveSnapshot_1 : cX1_saveSnapshot.data.toList.drop 24 = dktX1_saveSnapshot_1 := dk_seg dksX1_saveSnapshot_0 24 rfl rfl
theorem dX1_saveSnapshot_0 : decode cX1_saveSnapshot 0 = .ok (.iload_n 1, 1) := dk_27 (dk_at dksX1_saveSnapshot_0 0 rfl rfl)
theorem dX1_saveSnapshot_1 : decode cX1_saveSnapshot 1 = .ok (.i2l, 1) := dk_133 (dk_at dksX1_saveSnapshot_0 1 rfl rfl)
theorem dX1_saveSnapshot_2 : decode cX1_saveSnapshot 2 = .ok (.lconst 0, 1) := dk_9 (dk_at dksX1_saveSnapshot_0 2 rfl rfl)
theorem dX1_saveSnapshot_3 : decode cX1_saveSnapshot 3 = .ok (.lconst 1, 1) := dk_10 (dk_at dksX1_saveSnapshot_0 3 rfl rfl)
theorem dX1_saveSnapshot_4 : decode cX1_saveSnapshot 4 = .ok (.invokestatic 56, 3) := dk_184 0 56 (dk_at dksX1_saveSnapshot_0 4 rfl rfl)
theorem dX1_saveSnapshot_7 : decode cX1_saveSnapshot 7 = .ok (.ifCond .ne 5, 3) := dk_154 0 5 (dk_at dksX1_saveSnapshot_0 7 rfl rfl)
theorem dX1_saveSnapshot_10 : decode cX1_saveSnapshot 10 = .ok (.iconst 0, 1) := dk_3 (dk_at dksX1_saveSnapshot_0 10 rfl rfl)
theorem dX1_saveSnapshot_11 : decode cX1_saveSnapshot 11 = .ok (.ireturn, 1) := dk_172 (dk_at dksX1_saveSnapshot_0 11 rfl rfl)
theorem dX1_saveSnapshot_12 : decode cX1_saveSnapshot 12 = .ok (.aload_n 0, 1) := dk_42 (dk_at dksX1_saveSnapshot_0 12 rfl rfl)
theorem dX1_saveSnapshot_13 : decode cX1_saveSnapshot 13 = .ok (.getfield 40, 3) := dk_180 0 40 (dk_at dksX1_saveSnapshot_0 13 rfl rfl)
theorem dX1_saveSnapshot_16 : decode cX1_saveSnapshot 16 = .ok (.iload_n 1, 1) := dk_27 (dk_at dksX1_saveSnapshot_0 16 rfl rfl)
theorem dX1_saveSnapshot_17 : decode cX1_saveSnapshot 17 = .ok (.aload_n 0, 1) := dk_42 (dk_at dksX1_saveSnapshot_0 17 rfl rfl)
theorem dX1_saveSnapshot_18 : decode cX1_saveSnapshot 18 = .ok (.getfield 27, 3) := dk_180 0 27 (dk_at dksX1_saveSnapshot_0 18 rfl rfl)
theorem dX1_saveSnapshot_21 : decode cX1_saveSnapshot 21 = .ok (.invokevirtual 190, 3) := dk_182 0 190 (dk_at dksX1_saveSnapshot_0 21 rfl rfl)
theorem dX1_saveSnapshot_24 : decode cX1_saveSnapshot 24 = .ok (.aastore, 1) := dk_83 (dk_at dksX1_saveSnapshot_1 0 rfl rfl)
theorem dX1_saveSnapshot_25 : decode cX1_saveSnapshot 25 = .ok (.iconst 1, 1) := dk_4 (dk_at dksX1_saveSnapshot_1 1 rfl rfl)
theorem dX1_saveSnapshot_26 : decode cX1_saveSnapshot 26 = .ok (.ireturn, 1) := dk_172 (dk_at dksX1_saveSnapshot_1 2 rfl rfl)
abbrev cX1_restoreSnapshot : ByteArray := prog_1_method_80_code
def yX1_restoreSnapshot : MethodName := ⟨RX1, "restoreSnapshot", "(I)Z"⟩
def dkwX1_restoreSnapshot_1 : List UInt8 := [180, 0, 40, 27, 50, 182, 0, 190, 181, 0, 27, 42, 180, 0, 36, 182, 0, 106, 4, 172]
abbrev dktX1_restoreSnapshot_1 : List UInt8 := dkwX1_restoreSnapshot_1 ++ []
def dkwX1_restoreSnapshot_0 : List UInt8 := [27, 133, 9, 10, 184, 0, 56, 153, 0, 12, 42, 180, 0, 40, 27, 50, 199, 0, 5, 3, 172, 42, 42]
abbrev dktX1_restoreSnapshot_0 : List UInt8 := dkwX1_restoreSnapshot_0 ++ dktX1_restoreSnapshot_1
theorem dksX1_restoreSnapshot_0 : cX1_restoreSnapshot.data.toList.drop 0 = dktX1_restoreSnapshot_0 := by decide +kernel
theorem dksX1_restoreSnapshot_1 : cX1_restoreSnapshot.data.toList.drop 23 = dktX1_restoreSnapshot_1 := dk_seg dksX1_restoreSnapshot_0 23 rfl rfl
theorem dX1_restoreSnapshot_0 : decode cX1_restoreSnapshot 0 = .ok (.iload_n 1, 1) := dk_27 (dk_at dksX1_restoreSnapshot_0 0 rfl rfl)
theorem dX1_restoreSnapshot_1 : decode cX1_restoreSnapshot 1 = .ok (.i2l, 1) := dk_133 (dk_at dksX1_restoreSnapshot_0 1 rfl rfl)
theorem dX1_restoreSnapshot_2 : decode cX1_restoreSnapshot 2 = .ok (.lconst 0, 1) := dk_9 (dk_at dksX1_restoreSnapshot_0 2 rfl rfl)
theorem dX1_restoreSnapshot_3 : decode cX1_restoreSnapshot 3 = .ok (.lconst 1, 1) := dk_10 (dk_at dksX1_restoreSnapshot_0 3 rfl rfl)
theorem dX1_restoreSnapshot_4 : decode cX1_restoreSnapshot 4 = .ok (.invokestatic 56, 3) := dk_184 0 56 (dk_at dksX1_restoreSnapshot_0 4 rfl rfl)
theorem dX1_restoreSnapshot_7 : decode cX1_restoreSnapshot 7 = .ok (.ifCond .eq 12, 3) := dk_153 0 12 (dk_at dksX1_restoreSnapshot_0 7 rfl rfl)
theorem dX1_restoreSnapshot_10 : decode cX1_restoreSnapshot 10 = .ok (.aload_n 0, 1) := dk_42 (dk_at dksX1_restoreSnapshot_0 10 rfl rfl)
theorem dX1_restoreSnapshot_11 : decode cX1_restoreSnapshot 11 = .ok (.getfield 40, 3) := dk_180 0 40 (dk_at dksX1_restoreSnapshot_0 11 rfl rfl)
theorem dX1_restoreSnapshot_14 : decode cX1_restoreSnapshot 14 = .ok (.iload_n 1, 1) := dk_27 (dk_at dksX1_restoreSnapshot_0 14 rfl rfl)
theorem dX1_restoreSnapshot_15 : decode cX1_restoreSnapshot 15 = .ok (.aaload, 1) := dk_50 (dk_at dksX1_restoreSnapshot_0 15 rfl rfl)
theorem dX1_restoreSnapshot_16 : decode cX1_restoreSnapshot 16 = .ok (.ifnonnull 5, 3) := dk_199 0 5 (dk_at dksX1_restoreSnapshot_0 16 rfl rfl)
theorem dX1_restoreSnapshot_19 : decode cX1_restoreSnapshot 19 = .ok (.iconst 0, 1) := dk_3 (dk_at dksX1_restoreSnapshot_0 19 rfl rfl)
theorem dX1_restoreSnapshot_20 : decode cX1_restoreSnapshot 20 = .ok (.ireturn, 1) := dk_172 (dk_at dksX1_restoreSnapshot_0 20 rfl rfl)
theorem dX1_restoreSnapshot_21 : decode cX1_restoreSnapshot 21 = .ok (.aload_n 0, 1) := dk_42 (dk_at dksX1_restoreSnapshot_0 21 rfl rfl)
theorem dX1_restoreSnapshot_22 : decode cX1_restoreSnapshot 22 = .ok (.aload_n 0, 1) := dk_42 (dk_at dksX1_restoreSnapshot_0 22 rfl rfl)
theorem dX1_restoreSnapshot_23 : decode cX1_restoreSnapshot 23 = .ok (.getfield 40, 3) := dk_180 0 40 (dk_at dksX1_restoreSnapshot_1 0 rfl rfl)
theorem dX1_restoreSnapshot_26 : decode cX1_restoreSnapshot 26 = .ok (.iload_n 1, 1) := dk_27 (dk_at dksX1_restoreSnapshot_1 3 rfl rfl)
theorem dX1_restoreSnapshot_27 : decode cX1_restoreSnapshot 27 = .ok (.aaload, 1) := dk_50 (dk_at dksX1_restoreSnapshot_1 4 rfl rfl)
theorem dX1_restoreSnapshot_28 : decode cX1_restoreSnapshot 28 = .ok (.invokevirtual 190, 3) := dk_182 0 190 (dk_at dksX1_restoreSnapshot_1 5 rfl rfl)
theorem dX1_restoreSnapshot_31 : decode cX1_restoreSnapshot 31 = .ok (.putfield 27, 3) := dk_181 0 27 (dk_at dksX1_restoreSnapshot_1 8 rfl rfl)
theorem dX1_restoreSnapshot_34 : decode cX1_restoreSnapshot 34 = .ok (.aload_n 0, 1) := dk_42 (dk_at dksX1_restoreSnapshot_1 11 rfl rfl)
theorem dX1_restoreSnapshot_35 : decode cX1_restoreSnapshot 35 = .ok (.getfield 36, 3) := dk_180 0 36 (dk_at dksX1_restoreSnapshot_1 12 rfl rfl)
theorem dX1_restoreSnapshot_38 : decode cX1_restoreSnapshot 38 = .ok (.invokevirtual 106, 3) := dk_182 0 106 (dk_at dksX1_restoreSnapshot_1 15 rfl rfl)
theorem dX1_restoreSnapshot_41 : decode cX1_restoreSnapshot 41 = .ok (.iconst 1, 1) := dk_4 (dk_at dksX1_restoreSnapshot_1 18 rfl rfl)
theorem dX1_restoreSnapshot_42 : decode cX1_restoreSnapshot 42 = .ok (.ireturn, 1) := dk_172 (dk_at dksX1_restoreSnapshot_1 19 rfl rfl)
abbrev cX1_baseTolerance : ByteArray := prog_1_method_17_code
def yX1_baseTolerance : MethodName := ⟨RX1, "baseTolerance", "(II)I"⟩
def dkwX1_baseTolerance_2 : List UInt8 := [183, 0, 142, 191, 42, 180, 0, 20, 180, 0, 117, 27, 182, 0, 85, 192, 0, 129, 28, 182, 0, 143, 172]
abbrev dktX1_baseTolerance_2 : List UInt8 := dkwX1_baseTolerance_2 ++ []
def dkwX1_baseTolerance_1 : List UInt8 := [180, 0, 117, 27, 182, 0, 85, 192, 0, 129, 180, 0, 134, 133, 184, 0, 56, 154, 0, 11, 187, 0, 140, 89]
abbrev dktX1_baseTolerance_1 : List UInt8 := dkwX1_baseTolerance_1 ++ dktX1_baseTolerance_2
def dkwX1_baseTolerance_0 : List UInt8 := [42, 27, 182, 0, 125, 154, 0, 11, 187, 0, 137, 89, 183, 0, 139, 191, 28, 133, 9, 42, 180, 0, 20]
abbrev dktX1_baseTolerance_0 : List UInt8 := dkwX1_baseTolerance_0 ++ dktX1_baseTolerance_1
theorem dksX1_baseTolerance_0 : cX1_baseTolerance.data.toList.drop 0 = dktX1_baseTolerance_0 := by decide +kernel
theorem dksX1_baseTolerance_1 : cX1_baseTolerance.data.toList.drop 23 = dktX1_baseTolerance_1 := dk_seg dksX1_baseTolerance_0 23 rfl rfl
theorem dksX1_baseTolerance_2 : cX1_baseTolerance.data.toList.drop 47 = dktX1_baseTolerance_2 := dk_seg dksX1_baseTolerance_1 24 rfl rfl
theorem dX1_baseTolerance_0 : decode cX1_baseTolerance 0 = .ok (.aload_n 0, 1) := dk_42 (dk_at dksX1_baseTolerance_0 0 rfl rfl)
theorem dX1_baseTolerance_1 : decode cX1_baseTolerance 1 = .ok (.iload_n 1, 1) := dk_27 (dk_at dksX1_baseTolerance_0 1 rfl rfl)
theorem dX1_baseTolerance_2 : decode cX1_baseTolerance 2 = .ok (.invokevirtual 125, 3) := dk_182 0 125 (dk_at dksX1_baseTolerance_0 2 rfl rfl)
theorem dX1_baseTolerance_5 : decode cX1_baseTolerance 5 = .ok (.ifCond .ne 11, 3) := dk_154 0 11 (dk_at dksX1_baseTolerance_0 5 rfl rfl)
theorem dX1_baseTolerance_8 : decode cX1_baseTolerance 8 = .ok (.new 137, 3) := dk_187 0 137 (dk_at dksX1_baseTolerance_0 8 rfl rfl)
theorem dX1_baseTolerance_11 : decode cX1_baseTolerance 11 = .ok (.dup, 1) := dk_89 (dk_at dksX1_baseTolerance_0 11 rfl rfl)
theorem dX1_baseTolerance_12 : decode cX1_baseTolerance 12 = .ok (.invokespecial 139, 3) := dk_183 0 139 (dk_at dksX1_baseTolerance_0 12 rfl rfl)
theorem dX1_baseTolerance_15 : decode cX1_baseTolerance 15 = .ok (.athrow, 1) := dk_191 (dk_at dksX1_baseTolerance_0 15 rfl rfl)
theorem dX1_baseTolerance_16 : decode cX1_baseTolerance 16 = .ok (.iload_n 2, 1) := dk_28 (dk_at dksX1_baseTolerance_0 16 rfl rfl)
theorem dX1_baseTolerance_17 : decode cX1_baseTolerance 17 = .ok (.i2l, 1) := dk_133 (dk_at dksX1_baseTolerance_0 17 rfl rfl)
theorem dX1_baseTolerance_18 : decode cX1_baseTolerance 18 = .ok (.lconst 0, 1) := dk_9 (dk_at dksX1_baseTolerance_0 18 rfl rfl)
theorem dX1_baseTolerance_19 : decode cX1_baseTolerance 19 = .ok (.aload_n 0, 1) := dk_42 (dk_at dksX1_baseTolerance_0 19 rfl rfl)
theorem dX1_baseTolerance_20 : decode cX1_baseTolerance 20 = .ok (.getfield 20, 3) := dk_180 0 20 (dk_at dksX1_baseTolerance_0 20 rfl rfl)
theorem dX1_baseTolerance_23 : decode cX1_baseTolerance 23 = .ok (.getfield 117, 3) := dk_180 0 117 (dk_at dksX1_baseTolerance_1 0 rfl rfl)
theorem dX1_baseTolerance_26 : decode cX1_baseTolerance 26 = .ok (.iload_n 1, 1) := dk_27 (dk_at dksX1_baseTolerance_1 3 rfl rfl)
theorem dX1_baseTolerance_27 : decode cX1_baseTolerance 27 = .ok (.invokevirtual 85, 3) := dk_182 0 85 (dk_at dksX1_baseTolerance_1 4 rfl rfl)
theorem dX1_baseTolerance_30 : decode cX1_baseTolerance 30 = .ok (.checkcast 129, 3) := dk_192 0 129 (dk_at dksX1_baseTolerance_1 7 rfl rfl)
theorem dX1_baseTolerance_33 : decode cX1_baseTolerance 33 = .ok (.getfield 134, 3) := dk_180 0 134 (dk_at dksX1_baseTolerance_1 10 rfl rfl)
theorem dX1_baseTolerance_36 : decode cX1_baseTolerance 36 = .ok (.i2l, 1) := dk_133 (dk_at dksX1_baseTolerance_1 13 rfl rfl)
theorem dX1_baseTolerance_37 : decode cX1_baseTolerance 37 = .ok (.invokestatic 56, 3) := dk_184 0 56 (dk_at dksX1_baseTolerance_1 14 rfl rfl)
theorem dX1_baseTolerance_40 : decode cX1_baseTolerance 40 = .ok (.ifCond .ne 11, 3) := dk_154 0 11 (dk_at dksX1_baseTolerance_1 17 rfl rfl)
theorem dX1_baseTolerance_43 : decode cX1_baseTolerance 43 = .ok (.new 140, 3) := dk_187 0 140 (dk_at dksX1_baseTolerance_1 20 rfl rfl)
theorem dX1_baseTolerance_46 : decode cX1_baseTolerance 46 = .ok (.dup, 1) := dk_89 (dk_at dksX1_baseTolerance_1 23 rfl rfl)
theorem dX1_baseTolerance_47 : decode cX1_baseTolerance 47 = .ok (.invokespecial 142, 3) := dk_183 0 142 (dk_at dksX1_baseTolerance_2 0 rfl rfl)
theorem dX1_baseTolerance_50 : decode cX1_baseTolerance 50 = .ok (.athrow, 1) := dk_191 (dk_at dksX1_baseTolerance_2 3 rfl rfl)
theorem dX1_baseTolerance_51 : decode cX1_baseTolerance 51 = .ok (.aload_n 0, 1) := dk_42 (dk_at dksX1_baseTolerance_2 4 rfl rfl)
theorem dX1_baseTolerance_52 : decode cX1_baseTolerance 52 = .ok (.getfield 20, 3) := dk_180 0 20 (dk_at dksX1_baseTolerance_2 5 rfl rfl)
theorem dX1_baseTolerance_55 : decode cX1_baseTolerance 55 = .ok (.getfield 117, 3) := dk_180 0 117 (dk_at dksX1_baseTolerance_2 8 rfl rfl)
theorem dX1_baseTolerance_58 : decode cX1_baseTolerance 58 = .ok (.iload_n 1, 1) := dk_27 (dk_at dksX1_baseTolerance_2 11 rfl rfl)
theorem dX1_baseTolerance_59 : decode cX1_baseTolerance 59 = .ok (.invokevirtual 85, 3) := dk_182 0 85 (dk_at dksX1_baseTolerance_2 12 rfl rfl)
theorem dX1_baseTolerance_62 : decode cX1_baseTolerance 62 = .ok (.checkcast 129, 3) := dk_192 0 129 (dk_at dksX1_baseTolerance_2 15 rfl rfl)
theorem dX1_baseTolerance_65 : decode cX1_baseTolerance 65 = .ok (.iload_n 2, 1) := dk_28 (dk_at dksX1_baseTolerance_2 18 rfl rfl)
theorem dX1_baseTolerance_66 : decode cX1_baseTolerance 66 = .ok (.invokevirtual 143, 3) := dk_182 0 143 (dk_at dksX1_baseTolerance_2 19 rfl rfl)
theorem dX1_baseTolerance_69 : decode cX1_baseTolerance 69 = .ok (.ireturn, 1) := dk_172 (dk_at dksX1_baseTolerance_2 22 rfl rfl)
abbrev cX1_testLoad : ByteArray := prog_1_method_34_code
def yX1_testLoad : MethodName := ⟨RX1, "testLoad", "(II)I"⟩
def dkwX1_testLoad_0 : List UInt8 := [42, 180, 0, 20, 42, 27, 28, 182, 0, 234, 180, 0, 230, 28, 46, 182, 0, 151, 172]
abbrev dktX1_testLoad_0 : List UInt8 := dkwX1_testLoad_0 ++ []
theorem dksX1_testLoad_0 : cX1_testLoad.data.toList.drop 0 = dktX1_testLoad_0 := by decide +kernel
theorem dX1_testLoad_0 : decode cX1_testLoad 0 = .ok (.aload_n 0, 1) := dk_42 (dk_at dksX1_testLoad_0 0 rfl rfl)
theorem dX1_testLoad_1 : decode cX1_testLoad 1 = .ok (.getfield 20, 3) := dk_180 0 20 (dk_at dksX1_testLoad_0 1 rfl rfl)
theorem dX1_testLoad_4 : decode cX1_testLoad 4 = .ok (.aload_n 0, 1) := dk_42 (dk_at dksX1_testLoad_0 4 rfl rfl)
theorem dX1_testLoad_5 : decode cX1_testLoad 5 = .ok (.iload_n 1, 1) := dk_27 (dk_at dksX1_testLoad_0 5 rfl rfl)
theorem dX1_testLoad_6 : decode cX1_testLoad 6 = .ok (.iload_n 2, 1) := dk_28 (dk_at dksX1_testLoad_0 6 rfl rfl)
theorem dX1_testLoad_7 : decode cX1_testLoad 7 = .ok (.invokevirtual 234, 3) := dk_182 0 234 (dk_at dksX1_testLoad_0 7 rfl rfl)
theorem dX1_testLoad_10 : decode cX1_testLoad 10 = .ok (.getfield 230, 3) := dk_180 0 230 (dk_at dksX1_testLoad_0 10 rfl rfl)
theorem dX1_testLoad_13 : decode cX1_testLoad 13 = .ok (.iload_n 2, 1) := dk_28 (dk_at dksX1_testLoad_0 13 rfl rfl)
theorem dX1_testLoad_14 : decode cX1_testLoad 14 = .ok (.iaload, 1) := dk_46 (dk_at dksX1_testLoad_0 14 rfl rfl)
theorem dX1_testLoad_15 : decode cX1_testLoad 15 = .ok (.invokevirtual 151, 3) := dk_182 0 151 (dk_at dksX1_testLoad_0 15 rfl rfl)
theorem dX1_testLoad_18 : decode cX1_testLoad 18 = .ok (.ireturn, 1) := dk_172 (dk_at dksX1_testLoad_0 18 rfl rfl)
abbrev cX1_visitWith : ByteArray := prog_1_method_33_code
def yX1_visitWith : MethodName := ⟨RX1, "visitWith", "(II)LScaleInspection$Visit;"⟩
def dkwX1_visitWith_2 : List UInt8 := [180, 0, 27, 180, 0, 179, 27, 182, 0, 85, 192, 0, 183, 176]
abbrev dktX1_visitWith_2 : List UInt8 := dkwX1_visitWith_2 ++ []
def dkwX1_visitWith_1 : List UInt8 := [192, 0, 183, 180, 0, 227, 4, 100, 133, 184, 0, 56, 154, 0, 11, 187, 0, 137, 89, 183, 0, 139, 191, 42]
abbrev dktX1_visitWith_1 : List UInt8 := dkwX1_visitWith_1 ++ dktX1_visitWith_2
def dkwX1_visitWith_0 : List UInt8 := [42, 27, 182, 0, 213, 153, 0, 32, 28, 133, 9, 42, 180, 0, 27, 180, 0, 179, 27, 182, 0, 85]
abbrev dktX1_visitWith_0 : List UInt8 := dkwX1_visitWith_0 ++ dktX1_visitWith_1
theorem dksX1_visitWith_0 : cX1_visitWith.data.toList.drop 0 = dktX1_visitWith_0 := by decide +kernel
theorem dksX1_visitWith_1 : cX1_visitWith.data.toList.drop 22 = dktX1_visitWith_1 := dk_seg dksX1_visitWith_0 22 rfl rfl
theorem dksX1_visitWith_2 : cX1_visitWith.data.toList.drop 46 = dktX1_visitWith_2 := dk_seg dksX1_visitWith_1 24 rfl rfl
theorem dX1_visitWith_0 : decode cX1_visitWith 0 = .ok (.aload_n 0, 1) := dk_42 (dk_at dksX1_visitWith_0 0 rfl rfl)
theorem dX1_visitWith_1 : decode cX1_visitWith 1 = .ok (.iload_n 1, 1) := dk_27 (dk_at dksX1_visitWith_0 1 rfl rfl)
theorem dX1_visitWith_2 : decode cX1_visitWith 2 = .ok (.invokevirtual 213, 3) := dk_182 0 213 (dk_at dksX1_visitWith_0 2 rfl rfl)
theorem dX1_visitWith_5 : decode cX1_visitWith 5 = .ok (.ifCond .eq 32, 3) := dk_153 0 32 (dk_at dksX1_visitWith_0 5 rfl rfl)
theorem dX1_visitWith_8 : decode cX1_visitWith 8 = .ok (.iload_n 2, 1) := dk_28 (dk_at dksX1_visitWith_0 8 rfl rfl)
theorem dX1_visitWith_9 : decode cX1_visitWith 9 = .ok (.i2l, 1) := dk_133 (dk_at dksX1_visitWith_0 9 rfl rfl)
theorem dX1_visitWith_10 : decode cX1_visitWith 10 = .ok (.lconst 0, 1) := dk_9 (dk_at dksX1_visitWith_0 10 rfl rfl)
theorem dX1_visitWith_11 : decode cX1_visitWith 11 = .ok (.aload_n 0, 1) := dk_42 (dk_at dksX1_visitWith_0 11 rfl rfl)
theorem dX1_visitWith_12 : decode cX1_visitWith 12 = .ok (.getfield 27, 3) := dk_180 0 27 (dk_at dksX1_visitWith_0 12 rfl rfl)
theorem dX1_visitWith_15 : decode cX1_visitWith 15 = .ok (.getfield 179, 3) := dk_180 0 179 (dk_at dksX1_visitWith_0 15 rfl rfl)
theorem dX1_visitWith_18 : decode cX1_visitWith 18 = .ok (.iload_n 1, 1) := dk_27 (dk_at dksX1_visitWith_0 18 rfl rfl)
theorem dX1_visitWith_19 : decode cX1_visitWith 19 = .ok (.invokevirtual 85, 3) := dk_182 0 85 (dk_at dksX1_visitWith_0 19 rfl rfl)
theorem dX1_visitWith_22 : decode cX1_visitWith 22 = .ok (.checkcast 183, 3) := dk_192 0 183 (dk_at dksX1_visitWith_1 0 rfl rfl)
theorem dX1_visitWith_25 : decode cX1_visitWith 25 = .ok (.getfield 227, 3) := dk_180 0 227 (dk_at dksX1_visitWith_1 3 rfl rfl)
theorem dX1_visitWith_28 : decode cX1_visitWith 28 = .ok (.iconst 1, 1) := dk_4 (dk_at dksX1_visitWith_1 6 rfl rfl)
theorem dX1_visitWith_29 : decode cX1_visitWith 29 = .ok (.isub, 1) := dk_100 (dk_at dksX1_visitWith_1 7 rfl rfl)
theorem dX1_visitWith_30 : decode cX1_visitWith 30 = .ok (.i2l, 1) := dk_133 (dk_at dksX1_visitWith_1 8 rfl rfl)
theorem dX1_visitWith_31 : decode cX1_visitWith 31 = .ok (.invokestatic 56, 3) := dk_184 0 56 (dk_at dksX1_visitWith_1 9 rfl rfl)
theorem dX1_visitWith_34 : decode cX1_visitWith 34 = .ok (.ifCond .ne 11, 3) := dk_154 0 11 (dk_at dksX1_visitWith_1 12 rfl rfl)
theorem dX1_visitWith_37 : decode cX1_visitWith 37 = .ok (.new 137, 3) := dk_187 0 137 (dk_at dksX1_visitWith_1 15 rfl rfl)
theorem dX1_visitWith_40 : decode cX1_visitWith 40 = .ok (.dup, 1) := dk_89 (dk_at dksX1_visitWith_1 18 rfl rfl)
theorem dX1_visitWith_41 : decode cX1_visitWith 41 = .ok (.invokespecial 139, 3) := dk_183 0 139 (dk_at dksX1_visitWith_1 19 rfl rfl)
theorem dX1_visitWith_44 : decode cX1_visitWith 44 = .ok (.athrow, 1) := dk_191 (dk_at dksX1_visitWith_1 22 rfl rfl)
theorem dX1_visitWith_45 : decode cX1_visitWith 45 = .ok (.aload_n 0, 1) := dk_42 (dk_at dksX1_visitWith_1 23 rfl rfl)
theorem dX1_visitWith_46 : decode cX1_visitWith 46 = .ok (.getfield 27, 3) := dk_180 0 27 (dk_at dksX1_visitWith_2 0 rfl rfl)
theorem dX1_visitWith_49 : decode cX1_visitWith 49 = .ok (.getfield 179, 3) := dk_180 0 179 (dk_at dksX1_visitWith_2 3 rfl rfl)
theorem dX1_visitWith_52 : decode cX1_visitWith 52 = .ok (.iload_n 1, 1) := dk_27 (dk_at dksX1_visitWith_2 6 rfl rfl)
theorem dX1_visitWith_53 : decode cX1_visitWith 53 = .ok (.invokevirtual 85, 3) := dk_182 0 85 (dk_at dksX1_visitWith_2 7 rfl rfl)
theorem dX1_visitWith_56 : decode cX1_visitWith 56 = .ok (.checkcast 183, 3) := dk_192 0 183 (dk_at dksX1_visitWith_2 10 rfl rfl)
theorem dX1_visitWith_59 : decode cX1_visitWith 59 = .ok (.areturn, 1) := dk_176 (dk_at dksX1_visitWith_2 13 rfl rfl)
abbrev cX1_testError : ByteArray := prog_1_method_35_code
def yX1_testError : MethodName := ⟨RX1, "testError", "(II)I"⟩
def dkwX1_testError_0 : List UInt8 := [42, 27, 28, 182, 0, 234, 180, 0, 231, 28, 46, 172]
abbrev dktX1_testError_0 : List UInt8 := dkwX1_testError_0 ++ []
theorem dksX1_testError_0 : cX1_testError.data.toList.drop 0 = dktX1_testError_0 := by decide +kernel
theorem dX1_testError_0 : decode cX1_testError 0 = .ok (.aload_n 0, 1) := dk_42 (dk_at dksX1_testError_0 0 rfl rfl)
theorem dX1_testError_1 : decode cX1_testError 1 = .ok (.iload_n 1, 1) := dk_27 (dk_at dksX1_testError_0 1 rfl rfl)
theorem dX1_testError_2 : decode cX1_testError 2 = .ok (.iload_n 2, 1) := dk_28 (dk_at dksX1_testError_0 2 rfl rfl)
theorem dX1_testError_3 : decode cX1_testError 3 = .ok (.invokevirtual 234, 3) := dk_182 0 234 (dk_at dksX1_testError_0 3 rfl rfl)
theorem dX1_testError_6 : decode cX1_testError 6 = .ok (.getfield 231, 3) := dk_180 0 231 (dk_at dksX1_testError_0 6 rfl rfl)
theorem dX1_testError_9 : decode cX1_testError 9 = .ok (.iload_n 2, 1) := dk_28 (dk_at dksX1_testError_0 9 rfl rfl)
theorem dX1_testError_10 : decode cX1_testError 10 = .ok (.iaload, 1) := dk_46 (dk_at dksX1_testError_0 10 rfl rfl)
theorem dX1_testError_11 : decode cX1_testError 11 = .ok (.ireturn, 1) := dk_172 (dk_at dksX1_testError_0 11 rfl rfl)
abbrev cX1_testPasses : ByteArray := prog_1_method_38_code
def yX1_testPasses : MethodName := ⟨RX1, "testPasses", "(II)Z"⟩
def dkwX1_testPasses_0 : List UInt8 := [42, 42, 27, 28, 182, 0, 234, 28, 3, 182, 0, 244, 172]
abbrev dktX1_testPasses_0 : List UInt8 := dkwX1_testPasses_0 ++ []
theorem dksX1_testPasses_0 : cX1_testPasses.data.toList.drop 0 = dktX1_testPasses_0 := by decide +kernel
theorem dX1_testPasses_0 : decode cX1_testPasses 0 = .ok (.aload_n 0, 1) := dk_42 (dk_at dksX1_testPasses_0 0 rfl rfl)
theorem dX1_testPasses_1 : decode cX1_testPasses 1 = .ok (.aload_n 0, 1) := dk_42 (dk_at dksX1_testPasses_0 1 rfl rfl)
theorem dX1_testPasses_2 : decode cX1_testPasses 2 = .ok (.iload_n 1, 1) := dk_27 (dk_at dksX1_testPasses_0 2 rfl rfl)
theorem dX1_testPasses_3 : decode cX1_testPasses 3 = .ok (.iload_n 2, 1) := dk_28 (dk_at dksX1_testPasses_0 3 rfl rfl)
theorem dX1_testPasses_4 : decode cX1_testPasses 4 = .ok (.invokevirtual 234, 3) := dk_182 0 234 (dk_at dksX1_testPasses_0 4 rfl rfl)
theorem dX1_testPasses_7 : decode cX1_testPasses 7 = .ok (.iload_n 2, 1) := dk_28 (dk_at dksX1_testPasses_0 7 rfl rfl)
theorem dX1_testPasses_8 : decode cX1_testPasses 8 = .ok (.iconst 0, 1) := dk_3 (dk_at dksX1_testPasses_0 8 rfl rfl)
theorem dX1_testPasses_9 : decode cX1_testPasses 9 = .ok (.invokevirtual 244, 3) := dk_182 0 244 (dk_at dksX1_testPasses_0 9 rfl rfl)
theorem dX1_testPasses_12 : decode cX1_testPasses 12 = .ok (.ireturn, 1) := dk_172 (dk_at dksX1_testPasses_0 12 rfl rfl)
abbrev cX1_adjustment : ByteArray := prog_1_method_46_code
def yX1_adjustment : MethodName := ⟨RX1, "adjustment", "(I)I"⟩
def dkwX1_adjustment_2 : List UInt8 := [180, 0, 27, 180, 0, 179, 27, 182, 0, 85, 192, 0, 183, 182, 1, 17, 172]
abbrev dktX1_adjustment_2 : List UInt8 := dkwX1_adjustment_2 ++ []
def dkwX1_adjustment_1 : List UInt8 := [182, 0, 85, 192, 0, 183, 180, 0, 227, 154, 0, 11, 187, 1, 14, 89, 183, 1, 16, 191, 42, 42]
abbrev dktX1_adjustment_1 : List UInt8 := dkwX1_adjustment_1 ++ dktX1_adjustment_2
def dkwX1_adjustment_0 : List UInt8 := [42, 27, 182, 0, 213, 154, 0, 11, 187, 0, 137, 89, 183, 0, 139, 191, 42, 180, 0, 27, 180, 0, 179, 27]
abbrev dktX1_adjustment_0 : List UInt8 := dkwX1_adjustment_0 ++ dktX1_adjustment_1
theorem dksX1_adjustment_0 : cX1_adjustment.data.toList.drop 0 = dktX1_adjustment_0 := by decide +kernel
theorem dksX1_adjustment_1 : cX1_adjustment.data.toList.drop 24 = dktX1_adjustment_1 := dk_seg dksX1_adjustment_0 24 rfl rfl
theorem dksX1_adjustment_2 : cX1_adjustment.data.toList.drop 46 = dktX1_adjustment_2 := dk_seg dksX1_adjustment_1 22 rfl rfl
theorem dX1_adjustment_0 : decode cX1_adjustment 0 = .ok (.aload_n 0, 1) := dk_42 (dk_at dksX1_adjustment_0 0 rfl rfl)
theorem dX1_adjustment_1 : decode cX1_adjustment 1 = .ok (.iload_n 1, 1) := dk_27 (dk_at dksX1_adjustment_0 1 rfl rfl)
theorem dX1_adjustment_2 : decode cX1_adjustment 2 = .ok (.invokevirtual 213, 3) := dk_182 0 213 (dk_at dksX1_adjustment_0 2 rfl rfl)
theorem dX1_adjustment_5 : decode cX1_adjustment 5 = .ok (.ifCond .ne 11, 3) := dk_154 0 11 (dk_at dksX1_adjustment_0 5 rfl rfl)
theorem dX1_adjustment_8 : decode cX1_adjustment 8 = .ok (.new 137, 3) := dk_187 0 137 (dk_at dksX1_adjustment_0 8 rfl rfl)
theorem dX1_adjustment_11 : decode cX1_adjustment 11 = .ok (.dup, 1) := dk_89 (dk_at dksX1_adjustment_0 11 rfl rfl)
theorem dX1_adjustment_12 : decode cX1_adjustment 12 = .ok (.invokespecial 139, 3) := dk_183 0 139 (dk_at dksX1_adjustment_0 12 rfl rfl)
theorem dX1_adjustment_15 : decode cX1_adjustment 15 = .ok (.athrow, 1) := dk_191 (dk_at dksX1_adjustment_0 15 rfl rfl)
theorem dX1_adjustment_16 : decode cX1_adjustment 16 = .ok (.aload_n 0, 1) := dk_42 (dk_at dksX1_adjustment_0 16 rfl rfl)
theorem dX1_adjustment_17 : decode cX1_adjustment 17 = .ok (.getfield 27, 3) := dk_180 0 27 (dk_at dksX1_adjustment_0 17 rfl rfl)
theorem dX1_adjustment_20 : decode cX1_adjustment 20 = .ok (.getfield 179, 3) := dk_180 0 179 (dk_at dksX1_adjustment_0 20 rfl rfl)
theorem dX1_adjustment_23 : decode cX1_adjustment 23 = .ok (.iload_n 1, 1) := dk_27 (dk_at dksX1_adjustment_0 23 rfl rfl)
theorem dX1_adjustment_24 : decode cX1_adjustment 24 = .ok (.invokevirtual 85, 3) := dk_182 0 85 (dk_at dksX1_adjustment_1 0 rfl rfl)
theorem dX1_adjustment_27 : decode cX1_adjustment 27 = .ok (.checkcast 183, 3) := dk_192 0 183 (dk_at dksX1_adjustment_1 3 rfl rfl)
theorem dX1_adjustment_30 : decode cX1_adjustment 30 = .ok (.getfield 227, 3) := dk_180 0 227 (dk_at dksX1_adjustment_1 6 rfl rfl)
theorem dX1_adjustment_33 : decode cX1_adjustment 33 = .ok (.ifCond .ne 11, 3) := dk_154 0 11 (dk_at dksX1_adjustment_1 9 rfl rfl)
theorem dX1_adjustment_36 : decode cX1_adjustment 36 = .ok (.new 270, 3) := dk_187 1 14 (dk_at dksX1_adjustment_1 12 rfl rfl)
theorem dX1_adjustment_39 : decode cX1_adjustment 39 = .ok (.dup, 1) := dk_89 (dk_at dksX1_adjustment_1 15 rfl rfl)
theorem dX1_adjustment_40 : decode cX1_adjustment 40 = .ok (.invokespecial 272, 3) := dk_183 1 16 (dk_at dksX1_adjustment_1 16 rfl rfl)
theorem dX1_adjustment_43 : decode cX1_adjustment 43 = .ok (.athrow, 1) := dk_191 (dk_at dksX1_adjustment_1 19 rfl rfl)
theorem dX1_adjustment_44 : decode cX1_adjustment 44 = .ok (.aload_n 0, 1) := dk_42 (dk_at dksX1_adjustment_1 20 rfl rfl)
theorem dX1_adjustment_45 : decode cX1_adjustment 45 = .ok (.aload_n 0, 1) := dk_42 (dk_at dksX1_adjustment_1 21 rfl rfl)
theorem dX1_adjustment_46 : decode cX1_adjustment 46 = .ok (.getfield 27, 3) := dk_180 0 27 (dk_at dksX1_adjustment_2 0 rfl rfl)
theorem dX1_adjustment_49 : decode cX1_adjustment 49 = .ok (.getfield 179, 3) := dk_180 0 179 (dk_at dksX1_adjustment_2 3 rfl rfl)
theorem dX1_adjustment_52 : decode cX1_adjustment 52 = .ok (.iload_n 1, 1) := dk_27 (dk_at dksX1_adjustment_2 6 rfl rfl)
theorem dX1_adjustment_53 : decode cX1_adjustment 53 = .ok (.invokevirtual 85, 3) := dk_182 0 85 (dk_at dksX1_adjustment_2 7 rfl rfl)
theorem dX1_adjustment_56 : decode cX1_adjustment 56 = .ok (.checkcast 183, 3) := dk_192 0 183 (dk_at dksX1_adjustment_2 10 rfl rfl)
theorem dX1_adjustment_59 : decode cX1_adjustment 59 = .ok (.invokevirtual 273, 3) := dk_182 1 17 (dk_at dksX1_adjustment_2 13 rfl rfl)
theorem dX1_adjustment_62 : decode cX1_adjustment 62 = .ok (.ireturn, 1) := dk_172 (dk_at dksX1_adjustment_2 16 rfl rfl)
theorem q86 : (Jvm.Cond.initialized "ScaleInspection") ∈ lw_all := lw_g (lw_at lw_m1 1 rfl) rfl
theorem q127 : (Jvm.Cond.instantiable "ScaleInspection" (10 : Nat)) ∈ lw_all := lw_g (lw_at lw_m1 42 rfl) rfl
theorem q129 : (Jvm.Cond.instanceMethod ({ cls := "ScaleInspection", name := "<init>", desc := "()V" } : Jvm.MethodName)) ∈ lw_all := lw_g (lw_at lw_m1 44 rfl) rfl
theorem q130 : (Jvm.Cond.code ({ cls := "ScaleInspection", name := "<init>", desc := "()V" } : Jvm.MethodName) prog_1_method_3_code (1 : Nat) (Option.none : Option Jvm.ClassFile.FieldType)) ∈ lw_all := lw_g (lw_at lw_m1 45 rfl) rfl
theorem q131 : (Jvm.Cond.methodLink "ScaleInspection" (1 : Nat) ({ cls := "java/lang/Object", name := "<init>", desc := "()V" } : Jvm.MethodName)) ∈ lw_all := lw_g (lw_at lw_m1 46 rfl) rfl
theorem q134 : (Jvm.Cond.classLink "ScaleInspection" (17 : Nat) "ScaleInspection$Market") ∈ lw_all := lw_g (lw_at lw_m1 49 rfl) rfl
theorem q136 : (Jvm.Cond.methodLinkNest "ScaleInspection" (19 : Nat) ({ cls := "ScaleInspection$Market", name := "<init>", desc := "()V" } : Jvm.MethodName) "ScaleInspection") ∈ lw_tbl := lw_at lw_m1 51 rfl
theorem q483 : (Jvm.Cond.fieldLinkNest "ScaleInspection" (117 : Nat) "ScaleInspection$Market" "scales" "Ljava/util/ArrayList;" "ScaleInspection") ∈ lw_tbl := lw_at lw_m2 158 rfl
theorem q486 : (Jvm.Cond.fieldLinkNest "ScaleInspection" (77 : Nat) "ScaleInspection$Market" "sets" "Ljava/util/ArrayList;" "ScaleInspection") ∈ lw_tbl := lw_at lw_m2 161 rfl
theorem q490 : (Jvm.Cond.fieldLinkNest "ScaleInspection" (147 : Nat) "ScaleInspection$Market" "masses" "[I" "ScaleInspection") ∈ lw_tbl := lw_at lw_m2 165 rfl
theorem q493 : (Jvm.Cond.fieldLinkNest "ScaleInspection" (277 : Nat) "ScaleInspection$Market" "terms" "[I" "ScaleInspection") ∈ lw_tbl := lw_at lw_m2 168 rfl
theorem q494 : (Jvm.Cond.fieldLinkNest "ScaleInspection" (114 : Nat) "ScaleInspection$Market" "traders" "I" "ScaleInspection") ∈ lw_tbl := lw_at lw_m2 169 rfl
theorem q498 : (Jvm.Cond.fieldLinkNest "ScaleInspection" (120 : Nat) "ScaleInspection$Market" "massCount" "I" "ScaleInspection") ∈ lw_tbl := lw_at lw_m2 173 rfl
theorem q513 : (Jvm.Cond.classLink "ScaleInspection" (24 : Nat) "ScaleInspection$Entry") ∈ lw_all := lw_g (lw_at lw_m2 188 rfl) rfl
theorem q515 : (Jvm.Cond.methodLinkNest "ScaleInspection" (26 : Nat) ({ cls := "ScaleInspection$Entry", name := "<init>", desc := "()V" } : Jvm.MethodName) "ScaleInspection") ∈ lw_tbl := lw_at lw_m2 190 rfl
theorem q522 : (Jvm.Cond.fieldLinkNest "ScaleInspection" (179 : Nat) "ScaleInspection$Entry" "visits" "Ljava/util/ArrayList;" "ScaleInspection") ∈ lw_tbl := lw_at lw_m2 197 rfl
theorem q524 : (Jvm.Cond.fieldLinkNest "ScaleInspection" (84 : Nat) "ScaleInspection$Entry" "sets" "Ljava/util/ArrayList;" "ScaleInspection") ∈ lw_tbl := lw_at lw_m2 199 rfl
theorem q530 : (Jvm.Cond.classLink "ScaleInspection" (31 : Nat) "java/util/ArrayList") ∈ lw_all := lw_g (lw_at lw_m2 205 rfl) rfl
theorem q531 : (Jvm.Cond.methodLink "ScaleInspection" (33 : Nat) ({ cls := "java/util/ArrayList", name := "<init>", desc := "(I)V" } : Jvm.MethodName)) ∈ lw_all := lw_g (lw_at lw_m2 206 rfl) rfl
theorem q533 : (Jvm.Cond.classLink "ScaleInspection" (44 : Nat) "ScaleInspection$Solver") ∈ lw_all := lw_g (lw_at lw_m2 208 rfl) rfl
theorem q536 : (Jvm.Cond.fieldLink "ScaleInspection" (9 : Nat) "ScaleInspection" "buffer" "[B") ∈ lw_all := lw_g (lw_at lw_m2 211 rfl) rfl
theorem q537 : (Jvm.Cond.fieldLink "ScaleInspection" (50 : Nat) "ScaleInspection" "bufferLength" "I") ∈ lw_all := lw_g (lw_at lw_m2 212 rfl) rfl
theorem q538 : (Jvm.Cond.fieldLink "ScaleInspection" (13 : Nat) "ScaleInspection" "errorPosition" "I") ∈ lw_all := lw_g (lw_at lw_m2 213 rfl) rfl
theorem q539 : (Jvm.Cond.fieldLink "ScaleInspection" (20 : Nat) "ScaleInspection" "market" "LScaleInspection$Market;") ∈ lw_all := lw_g (lw_at lw_m2 214 rfl) rfl
theorem q540 : (Jvm.Cond.fieldLink "ScaleInspection" (27 : Nat) "ScaleInspection" "entry" "LScaleInspection$Entry;") ∈ lw_all := lw_g (lw_at lw_m2 215 rfl) rfl
theorem q541 : (Jvm.Cond.fieldLink "ScaleInspection" (36 : Nat) "ScaleInspection" "history" "Ljava/util/ArrayList;") ∈ lw_all := lw_g (lw_at lw_m2 216 rfl) rfl
theorem q542 : (Jvm.Cond.fieldLink "ScaleInspection" (40 : Nat) "ScaleInspection" "snapshots" "[LScaleInspection$Entry;") ∈ lw_all := lw_g (lw_at lw_m2 217 rfl) rfl
theorem q543 : (Jvm.Cond.fieldLink "ScaleInspection" (169 : Nat) "ScaleInspection" "bestRight0" "I") ∈ lw_all := lw_g (lw_at lw_m2 218 rfl) rfl
theorem q544 : (Jvm.Cond.fieldLink "ScaleInspection" (172 : Nat) "ScaleInspection" "bestLeft0" "I") ∈ lw_all := lw_g (lw_at lw_m2 219 rfl) rfl
theorem q545 : (Jvm.Cond.fieldLink "ScaleInspection" (46 : Nat) "ScaleInspection" "solvers" "[LScaleInspection$Solver;") ∈ lw_all := lw_g (lw_at lw_m2 220 rfl) rfl
theorem q546 : (Jvm.Cond.laysFinal "ScaleInspection" "ScaleInspection" "buffer" "[B") ∈ lw_all := lw_g (lw_at lw_m2 221 rfl) rfl
theorem q547 : (Jvm.Cond.soleField "ScaleInspection" "buffer") ∈ lw_all := lw_g (lw_at lw_m2 222 rfl) rfl
theorem q548 : (Jvm.Cond.lays "ScaleInspection" "ScaleInspection" "bufferLength" "I") ∈ lw_all := lw_g (lw_at lw_m2 223 rfl) rfl
theorem q549 : (Jvm.Cond.soleField "ScaleInspection" "bufferLength") ∈ lw_all := lw_g (lw_at lw_m2 224 rfl) rfl
theorem q550 : (Jvm.Cond.lays "ScaleInspection" "ScaleInspection" "errorPosition" "I") ∈ lw_all := lw_g (lw_at lw_m2 225 rfl) rfl
theorem q551 : (Jvm.Cond.soleField "ScaleInspection" "errorPosition") ∈ lw_all := lw_g (lw_at lw_m2 226 rfl) rfl
theorem q552 : (Jvm.Cond.lays "ScaleInspection" "ScaleInspection" "market" "LScaleInspection$Market;") ∈ lw_all := lw_g (lw_at lw_m2 227 rfl) rfl
theorem q553 : (Jvm.Cond.soleField "ScaleInspection" "market") ∈ lw_all := lw_g (lw_at lw_m2 228 rfl) rfl
theorem q554 : (Jvm.Cond.lays "ScaleInspection" "ScaleInspection" "entry" "LScaleInspection$Entry;") ∈ lw_all := lw_g (lw_at lw_m2 229 rfl) rfl
theorem q555 : (Jvm.Cond.soleField "ScaleInspection" "entry") ∈ lw_all := lw_g (lw_at lw_m2 230 rfl) rfl
theorem q556 : (Jvm.Cond.laysFinal "ScaleInspection" "ScaleInspection" "history" "Ljava/util/ArrayList;") ∈ lw_all := lw_g (lw_at lw_m2 231 rfl) rfl
theorem q557 : (Jvm.Cond.soleField "ScaleInspection" "history") ∈ lw_all := lw_g (lw_at lw_m2 232 rfl) rfl
theorem q558 : (Jvm.Cond.laysFinal "ScaleInspection" "ScaleInspection" "snapshots" "[LScaleInspection$Entry;") ∈ lw_all := lw_g (lw_at lw_m2 233 rfl) rfl
theorem q559 : (Jvm.Cond.soleField "ScaleInspection" "snapshots") ∈ lw_all := lw_g (lw_at lw_m2 234 rfl) rfl
theorem q560 : (Jvm.Cond.lays "ScaleInspection" "ScaleInspection" "bestRight0" "I") ∈ lw_all := lw_g (lw_at lw_m2 235 rfl) rfl
theorem q561 : (Jvm.Cond.soleField "ScaleInspection" "bestRight0") ∈ lw_all := lw_g (lw_at lw_m2 236 rfl) rfl
theorem q562 : (Jvm.Cond.lays "ScaleInspection" "ScaleInspection" "bestLeft0" "I") ∈ lw_all := lw_g (lw_at lw_m2 237 rfl) rfl
theorem q563 : (Jvm.Cond.soleField "ScaleInspection" "bestLeft0") ∈ lw_all := lw_g (lw_at lw_m2 238 rfl) rfl
theorem q564 : (Jvm.Cond.laysFinal "ScaleInspection" "ScaleInspection" "solvers" "[LScaleInspection$Solver;") ∈ lw_all := lw_g (lw_at lw_m2 239 rfl) rfl
theorem q565 : (Jvm.Cond.soleField "ScaleInspection" "solvers") ∈ lw_all := lw_g (lw_at lw_m3 0 rfl) rfl
theorem q566 : (Jvm.Cond.superclass "ScaleInspection" "java/lang/Object") ∈ lw_all := lw_g (lw_at lw_m3 1 rfl) rfl
theorem q568 : (Jvm.Cond.instanceMethod ({ cls := "ScaleInspection", name := "append", desc := "(IIIII)I" } : Jvm.MethodName)) ∈ lw_all := lw_g (lw_at lw_m3 3 rfl) rfl
theorem q569 : (Jvm.Cond.selects "ScaleInspection" ({ cls := "ScaleInspection", name := "append", desc := "(IIIII)I" } : Jvm.MethodName) ({ cls := "ScaleInspection", name := "append", desc := "(IIIII)I" } : Jvm.MethodName)) ∈ lw_all := lw_g (lw_at lw_m3 4 rfl) rfl
theorem q570 : (Jvm.Cond.code ({ cls := "ScaleInspection", name := "append", desc := "(IIIII)I" } : Jvm.MethodName) prog_1_method_4_code (6 : Nat) (Option.some Jvm.ClassFile.FieldType.int)) ∈ lw_all := lw_g (lw_at lw_m3 5 rfl) rfl
theorem q571 : (Jvm.Cond.methodLink "ScaleInspection" (53 : Nat) ({ cls := "ScaleInspection", name := "appendWord", desc := "(I)V" } : Jvm.MethodName)) ∈ lw_all := lw_g (lw_at lw_m3 6 rfl) rfl
theorem q572 : (Jvm.Cond.privateMethod ({ cls := "ScaleInspection", name := "appendWord", desc := "(I)V" } : Jvm.MethodName)) ∈ lw_tbl := lw_at lw_m3 7 rfl
theorem q573 : (Jvm.Cond.instanceMethod ({ cls := "ScaleInspection", name := "appendWord", desc := "(I)V" } : Jvm.MethodName)) ∈ lw_all := lw_g (lw_at lw_m3 8 rfl) rfl
theorem q574 : (Jvm.Cond.code ({ cls := "ScaleInspection", name := "appendWord", desc := "(I)V" } : Jvm.MethodName) prog_1_method_5_code (3 : Nat) (Option.none : Option Jvm.ClassFile.FieldType)) ∈ lw_all := lw_g (lw_at lw_m3 9 rfl) rfl
theorem q576 : (Jvm.Cond.instanceMethod ({ cls := "ScaleInspection", name := "parse", desc := "(I)I" } : Jvm.MethodName)) ∈ lw_all := lw_g (lw_at lw_m3 11 rfl) rfl
theorem q577 : (Jvm.Cond.selects "ScaleInspection" ({ cls := "ScaleInspection", name := "parse", desc := "(I)I" } : Jvm.MethodName) ({ cls := "ScaleInspection", name := "parse", desc := "(I)I" } : Jvm.MethodName)) ∈ lw_all := lw_g (lw_at lw_m3 12 rfl) rfl
theorem q578 : (Jvm.Cond.codeWith ({ cls := "ScaleInspection", name := "parse", desc := "(I)I" } : Jvm.MethodName) prog_1_method_6_code (3 : Nat) (Option.some Jvm.ClassFile.FieldType.int) [((21 : Nat), (37 : Nat), (40 : Nat), (69 : Nat))]) ∈ lw_all := lw_g (lw_at lw_m3 13 rfl) rfl
theorem q579 : (Jvm.Cond.classLink "ScaleInspection" (69 : Nat) "ScaleInspection$ParseException") ∈ lw_all := lw_g (lw_at lw_m3 14 rfl) rfl
theorem q580 : (Jvm.Cond.methodLink "ScaleInspection" (56 : Nat) ({ cls := "ScaleInspection", name := "inRange", desc := "(JJJ)Z" } : Jvm.MethodName)) ∈ lw_all := lw_g (lw_at lw_m3 15 rfl) rfl
theorem q581 : (Jvm.Cond.static ({ cls := "ScaleInspection", name := "inRange", desc := "(JJJ)Z" } : Jvm.MethodName)) ∈ lw_all := lw_g (lw_at lw_m3 16 rfl) rfl
theorem q582 : (Jvm.Cond.code ({ cls := "ScaleInspection", name := "inRange", desc := "(JJJ)Z" } : Jvm.MethodName) prog_1_method_1_code (6 : Nat) (Option.some Jvm.ClassFile.FieldType.boolean)) ∈ lw_all := lw_g (lw_at lw_m3 17 rfl) rfl
theorem q583 : (Jvm.Cond.classLink "ScaleInspection" (60 : Nat) "ScaleInspection$Parser") ∈ lw_all := lw_g (lw_at lw_m3 18 rfl) rfl
theorem q585 : (Jvm.Cond.methodLink "ScaleInspection" (62 : Nat) ({ cls := "ScaleInspection$Parser", name := "<init>", desc := "(LScaleInspection;I)V" } : Jvm.MethodName)) ∈ lw_all := lw_g (lw_at lw_m3 20 rfl) rfl
theorem q693 : (Jvm.Cond.methodLink "ScaleInspection" (65 : Nat) ({ cls := "ScaleInspection$Parser", name := "parse", desc := "()LScaleInspection$Market;" } : Jvm.MethodName)) ∈ lw_all := lw_g (lw_at lw_m3 128 rfl) rfl
theorem q755 : (Jvm.Cond.fieldLinkNest "ScaleInspection" (74 : Nat) "ScaleInspection$ParseException" "code" "I" "ScaleInspection") ∈ lw_tbl := lw_at lw_m3 190 rfl
theorem q757 : (Jvm.Cond.fieldLinkNest "ScaleInspection" (71 : Nat) "ScaleInspection$ParseException" "position" "I" "ScaleInspection") ∈ lw_tbl := lw_at lw_m3 192 rfl
theorem q818 : (Jvm.Cond.fieldLinkNest "ScaleInspection" (131 : Nat) "ScaleInspection$Scale" "trader" "I" "ScaleInspection") ∈ lw_tbl := lw_at lw_m4 13 rfl
theorem q820 : (Jvm.Cond.fieldLinkNest "ScaleInspection" (280 : Nat) "ScaleInspection$Scale" "accuracy" "I" "ScaleInspection") ∈ lw_tbl := lw_at lw_m4 15 rfl
theorem q823 : (Jvm.Cond.fieldLinkNest "ScaleInspection" (134 : Nat) "ScaleInspection$Scale" "capacity" "I" "ScaleInspection") ∈ lw_tbl := lw_at lw_m4 18 rfl
theorem q861 : (Jvm.Cond.selects "ScaleInspection" ({ cls := "java/lang/Object", name := "getClass", desc := "()Ljava/lang/Class;" } : Jvm.MethodName) ({ cls := "java/lang/Object", name := "getClass", desc := "()Ljava/lang/Class;" } : Jvm.MethodName)) ∈ lw_all := lw_g (lw_at lw_m4 56 rfl) rfl
theorem q914 : (Jvm.Cond.fieldLinkNest "ScaleInspection" (91 : Nat) "ScaleInspection$WeightSet" "count" "I" "ScaleInspection") ∈ lw_tbl := lw_at lw_m4 109 rfl
theorem q916 : (Jvm.Cond.fieldLinkNest "ScaleInspection" (94 : Nat) "ScaleInspection$WeightSet" "canBeGenuine" "Z" "ScaleInspection") ∈ lw_tbl := lw_at lw_m4 111 rfl
theorem q928 : (Jvm.Cond.static ({ cls := "ScaleInspection", name := "isIn", desc := "(II)Z" } : Jvm.MethodName)) ∈ lw_all := lw_g (lw_at lw_m4 123 rfl) rfl
theorem q929 : (Jvm.Cond.code ({ cls := "ScaleInspection", name := "isIn", desc := "(II)Z" } : Jvm.MethodName) prog_1_method_2_code (2 : Nat) (Option.some Jvm.ClassFile.FieldType.boolean)) ∈ lw_all := lw_g (lw_at lw_m4 124 rfl) rfl
theorem q939 : (Jvm.Cond.methodLink "ScaleInspection" (80 : Nat) ({ cls := "java/util/ArrayList", name := "size", desc := "()I" } : Jvm.MethodName)) ∈ lw_all := lw_g (lw_at lw_m4 134 rfl) rfl
theorem q940 : (Jvm.Cond.methodLink "ScaleInspection" (85 : Nat) ({ cls := "java/util/ArrayList", name := "get", desc := "(I)Ljava/lang/Object;" } : Jvm.MethodName)) ∈ lw_all := lw_g (lw_at lw_m4 135 rfl) rfl
theorem q952 : (Jvm.Cond.classLink "ScaleInspection" (89 : Nat) "ScaleInspection$WeightSet") ∈ lw_all := lw_g (lw_at lw_m4 147 rfl) rfl
theorem q953 : (Jvm.Cond.methodLink "ScaleInspection" (98 : Nat) ({ cls := "ScaleInspection", name := "atFirst", desc := "(IZ)LScaleInspection$Hypotheses;" } : Jvm.MethodName)) ∈ lw_all := lw_g (lw_at lw_m4 148 rfl) rfl
theorem q954 : (Jvm.Cond.static ({ cls := "ScaleInspection", name := "atFirst", desc := "(IZ)LScaleInspection$Hypotheses;" } : Jvm.MethodName)) ∈ lw_all := lw_g (lw_at lw_m4 149 rfl) rfl
theorem q955 : (Jvm.Cond.code ({ cls := "ScaleInspection", name := "atFirst", desc := "(IZ)LScaleInspection$Hypotheses;" } : Jvm.MethodName) prog_1_method_7_code (3 : Nat) (Option.some (Jvm.ClassFile.FieldType.object "ScaleInspection$Hypotheses"))) ∈ lw_all := lw_g (lw_at lw_m4 150 rfl) rfl
theorem q956 : (Jvm.Cond.classLink "ScaleInspection" (109 : Nat) "ScaleInspection$Hypotheses") ∈ lw_all := lw_g (lw_at lw_m4 151 rfl) rfl
theorem q958 : (Jvm.Cond.methodLink "ScaleInspection" (111 : Nat) ({ cls := "ScaleInspection$Hypotheses", name := "<init>", desc := "(IIZI)V" } : Jvm.MethodName)) ∈ lw_all := lw_g (lw_at lw_m4 153 rfl) rfl
theorem q964 : (Jvm.Cond.fieldLinkNest "ScaleInspection" (328 : Nat) "ScaleInspection$Hypotheses" "heavy" "I" "ScaleInspection") ∈ lw_tbl := lw_at lw_m4 159 rfl
theorem q967 : (Jvm.Cond.fieldLinkNest "ScaleInspection" (331 : Nat) "ScaleInspection$Hypotheses" "light" "I" "ScaleInspection") ∈ lw_tbl := lw_at lw_m4 162 rfl
theorem q969 : (Jvm.Cond.fieldLinkNest "ScaleInspection" (321 : Nat) "ScaleInspection$Hypotheses" "weighings" "I" "ScaleInspection") ∈ lw_tbl := lw_at lw_m4 164 rfl
theorem q972 : (Jvm.Cond.fieldLinkNest "ScaleInspection" (334 : Nat) "ScaleInspection$Hypotheses" "genuine" "Z" "ScaleInspection") ∈ lw_tbl := lw_at lw_m4 167 rfl
theorem q982 : (Jvm.Cond.methodLink "ScaleInspection" (102 : Nat) ({ cls := "java/util/ArrayList", name := "add", desc := "(Ljava/lang/Object;)Z" } : Jvm.MethodName)) ∈ lw_all := lw_g (lw_at lw_m4 177 rfl) rfl
theorem q983 : (Jvm.Cond.methodLink "ScaleInspection" (106 : Nat) ({ cls := "java/util/ArrayList", name := "clear", desc := "()V" } : Jvm.MethodName)) ∈ lw_all := lw_g (lw_at lw_m4 178 rfl) rfl
theorem q988 : (Jvm.Cond.instanceMethod ({ cls := "ScaleInspection", name := "errorPosition", desc := "()I" } : Jvm.MethodName)) ∈ lw_all := lw_g (lw_at lw_m4 183 rfl) rfl
theorem q989 : (Jvm.Cond.selects "ScaleInspection" ({ cls := "ScaleInspection", name := "errorPosition", desc := "()I" } : Jvm.MethodName) ({ cls := "ScaleInspection", name := "errorPosition", desc := "()I" } : Jvm.MethodName)) ∈ lw_all := lw_g (lw_at lw_m4 184 rfl) rfl
theorem q990 : (Jvm.Cond.code ({ cls := "ScaleInspection", name := "errorPosition", desc := "()I" } : Jvm.MethodName) prog_1_method_8_code (1 : Nat) (Option.some Jvm.ClassFile.FieldType.int)) ∈ lw_all := lw_g (lw_at lw_m4 185 rfl) rfl
theorem q992 : (Jvm.Cond.instanceMethod ({ cls := "ScaleInspection", name := "traderCount", desc := "()I" } : Jvm.MethodName)) ∈ lw_all := lw_g (lw_at lw_m4 187 rfl) rfl
theorem q993 : (Jvm.Cond.selects "ScaleInspection" ({ cls := "ScaleInspection", name := "traderCount", desc := "()I" } : Jvm.MethodName) ({ cls := "ScaleInspection", name := "traderCount", desc := "()I" } : Jvm.MethodName)) ∈ lw_all := lw_g (lw_at lw_m4 188 rfl) rfl
theorem q994 : (Jvm.Cond.code ({ cls := "ScaleInspection", name := "traderCount", desc := "()I" } : Jvm.MethodName) prog_1_method_9_code (1 : Nat) (Option.some Jvm.ClassFile.FieldType.int)) ∈ lw_all := lw_g (lw_at lw_m4 189 rfl) rfl
theorem q996 : (Jvm.Cond.instanceMethod ({ cls := "ScaleInspection", name := "scaleCount", desc := "()I" } : Jvm.MethodName)) ∈ lw_all := lw_g (lw_at lw_m4 191 rfl) rfl
theorem q997 : (Jvm.Cond.selects "ScaleInspection" ({ cls := "ScaleInspection", name := "scaleCount", desc := "()I" } : Jvm.MethodName) ({ cls := "ScaleInspection", name := "scaleCount", desc := "()I" } : Jvm.MethodName)) ∈ lw_all := lw_g (lw_at lw_m4 192 rfl) rfl
theorem q998 : (Jvm.Cond.code ({ cls := "ScaleInspection", name := "scaleCount", desc := "()I" } : Jvm.MethodName) prog_1_method_10_code (1 : Nat) (Option.some Jvm.ClassFile.FieldType.int)) ∈ lw_all := lw_g (lw_at lw_m4 193 rfl) rfl
theorem q1000 : (Jvm.Cond.instanceMethod ({ cls := "ScaleInspection", name := "massCount", desc := "()I" } : Jvm.MethodName)) ∈ lw_all := lw_g (lw_at lw_m4 195 rfl) rfl
theorem q1001 : (Jvm.Cond.selects "ScaleInspection" ({ cls := "ScaleInspection", name := "massCount", desc := "()I" } : Jvm.MethodName) ({ cls := "ScaleInspection", name := "massCount", desc := "()I" } : Jvm.MethodName)) ∈ lw_all := lw_g (lw_at lw_m4 196 rfl) rfl
theorem q1002 : (Jvm.Cond.code ({ cls := "ScaleInspection", name := "massCount", desc := "()I" } : Jvm.MethodName) prog_1_method_11_code (1 : Nat) (Option.some Jvm.ClassFile.FieldType.int)) ∈ lw_all := lw_g (lw_at lw_m4 197 rfl) rfl
theorem q1004 : (Jvm.Cond.instanceMethod ({ cls := "ScaleInspection", name := "setCount", desc := "()I" } : Jvm.MethodName)) ∈ lw_all := lw_g (lw_at lw_m4 199 rfl) rfl
theorem q1005 : (Jvm.Cond.selects "ScaleInspection" ({ cls := "ScaleInspection", name := "setCount", desc := "()I" } : Jvm.MethodName) ({ cls := "ScaleInspection", name := "setCount", desc := "()I" } : Jvm.MethodName)) ∈ lw_all := lw_g (lw_at lw_m4 200 rfl) rfl
theorem q1006 : (Jvm.Cond.code ({ cls := "ScaleInspection", name := "setCount", desc := "()I" } : Jvm.MethodName) prog_1_method_12_code (1 : Nat) (Option.some Jvm.ClassFile.FieldType.int)) ∈ lw_all := lw_g (lw_at lw_m4 201 rfl) rfl
theorem q1008 : (Jvm.Cond.instanceMethod ({ cls := "ScaleInspection", name := "trader", desc := "(I)I" } : Jvm.MethodName)) ∈ lw_all := lw_g (lw_at lw_m4 203 rfl) rfl
theorem q1009 : (Jvm.Cond.selects "ScaleInspection" ({ cls := "ScaleInspection", name := "trader", desc := "(I)I" } : Jvm.MethodName) ({ cls := "ScaleInspection", name := "trader", desc := "(I)I" } : Jvm.MethodName)) ∈ lw_all := lw_g (lw_at lw_m4 204 rfl) rfl
theorem q1010 : (Jvm.Cond.code ({ cls := "ScaleInspection", name := "trader", desc := "(I)I" } : Jvm.MethodName) prog_1_method_15_code (2 : Nat) (Option.some Jvm.ClassFile.FieldType.int)) ∈ lw_all := lw_g (lw_at lw_m4 205 rfl) rfl
theorem q1011 : (Jvm.Cond.methodLink "ScaleInspection" (125 : Nat) ({ cls := "ScaleInspection", name := "isScale", desc := "(I)Z" } : Jvm.MethodName)) ∈ lw_all := lw_g (lw_at lw_m4 206 rfl) rfl
theorem q1012 : (Jvm.Cond.privateMethod ({ cls := "ScaleInspection", name := "isScale", desc := "(I)Z" } : Jvm.MethodName)) ∈ lw_tbl := lw_at lw_m4 207 rfl
theorem q1013 : (Jvm.Cond.instanceMethod ({ cls := "ScaleInspection", name := "isScale", desc := "(I)Z" } : Jvm.MethodName)) ∈ lw_all := lw_g (lw_at lw_m4 208 rfl) rfl
theorem q1014 : (Jvm.Cond.code ({ cls := "ScaleInspection", name := "isScale", desc := "(I)Z" } : Jvm.MethodName) prog_1_method_13_code (2 : Nat) (Option.some Jvm.ClassFile.FieldType.boolean)) ∈ lw_all := lw_g (lw_at lw_m4 209 rfl) rfl
theorem q1015 : (Jvm.Cond.classLink "ScaleInspection" (129 : Nat) "ScaleInspection$Scale") ∈ lw_all := lw_g (lw_at lw_m4 210 rfl) rfl
theorem q1017 : (Jvm.Cond.instanceMethod ({ cls := "ScaleInspection", name := "capacity", desc := "(I)I" } : Jvm.MethodName)) ∈ lw_all := lw_g (lw_at lw_m4 212 rfl) rfl
theorem q1018 : (Jvm.Cond.selects "ScaleInspection" ({ cls := "ScaleInspection", name := "capacity", desc := "(I)I" } : Jvm.MethodName) ({ cls := "ScaleInspection", name := "capacity", desc := "(I)I" } : Jvm.MethodName)) ∈ lw_all := lw_g (lw_at lw_m4 213 rfl) rfl
theorem q1019 : (Jvm.Cond.code ({ cls := "ScaleInspection", name := "capacity", desc := "(I)I" } : Jvm.MethodName) prog_1_method_16_code (2 : Nat) (Option.some Jvm.ClassFile.FieldType.int)) ∈ lw_all := lw_g (lw_at lw_m4 214 rfl) rfl
theorem q1021 : (Jvm.Cond.instanceMethod ({ cls := "ScaleInspection", name := "massValue", desc := "(I)I" } : Jvm.MethodName)) ∈ lw_all := lw_g (lw_at lw_m4 216 rfl) rfl
theorem q1022 : (Jvm.Cond.selects "ScaleInspection" ({ cls := "ScaleInspection", name := "massValue", desc := "(I)I" } : Jvm.MethodName) ({ cls := "ScaleInspection", name := "massValue", desc := "(I)I" } : Jvm.MethodName)) ∈ lw_all := lw_g (lw_at lw_m4 217 rfl) rfl
theorem q1023 : (Jvm.Cond.code ({ cls := "ScaleInspection", name := "massValue", desc := "(I)I" } : Jvm.MethodName) prog_1_method_18_code (2 : Nat) (Option.some Jvm.ClassFile.FieldType.int)) ∈ lw_all := lw_g (lw_at lw_m4 218 rfl) rfl
theorem q1025 : (Jvm.Cond.instanceMethod ({ cls := "ScaleInspection", name := "fewestMasses", desc := "(I)I" } : Jvm.MethodName)) ∈ lw_all := lw_g (lw_at lw_m4 220 rfl) rfl
theorem q1026 : (Jvm.Cond.selects "ScaleInspection" ({ cls := "ScaleInspection", name := "fewestMasses", desc := "(I)I" } : Jvm.MethodName) ({ cls := "ScaleInspection", name := "fewestMasses", desc := "(I)I" } : Jvm.MethodName)) ∈ lw_all := lw_g (lw_at lw_m4 221 rfl) rfl
theorem q1027 : (Jvm.Cond.code ({ cls := "ScaleInspection", name := "fewestMasses", desc := "(I)I" } : Jvm.MethodName) prog_1_method_19_code (4 : Nat) (Option.some Jvm.ClassFile.FieldType.int)) ∈ lw_all := lw_g (lw_at lw_m4 222 rfl) rfl
theorem q1028 : (Jvm.Cond.methodLink "ScaleInspection" (151 : Nat) ({ cls := "ScaleInspection$Market", name := "load", desc := "(I)I" } : Jvm.MethodName)) ∈ lw_all := lw_g (lw_at lw_m4 223 rfl) rfl
theorem q1033 : (Jvm.Cond.methodLink "ScaleInspection" (154 : Nat) ({ cls := "java/lang/Integer", name := "bitCount", desc := "(I)I" } : Jvm.MethodName)) ∈ lw_all := lw_g (lw_at lw_m4 228 rfl) rfl
theorem q1040 : (Jvm.Cond.instanceMethod ({ cls := "ScaleInspection", name := "closestLoad", desc := "(I)I" } : Jvm.MethodName)) ∈ lw_all := lw_g (lw_at lw_m4 235 rfl) rfl
theorem q1041 : (Jvm.Cond.selects "ScaleInspection" ({ cls := "ScaleInspection", name := "closestLoad", desc := "(I)I" } : Jvm.MethodName) ({ cls := "ScaleInspection", name := "closestLoad", desc := "(I)I" } : Jvm.MethodName)) ∈ lw_all := lw_g (lw_at lw_m4 236 rfl) rfl
theorem q1042 : (Jvm.Cond.code ({ cls := "ScaleInspection", name := "closestLoad", desc := "(I)I" } : Jvm.MethodName) prog_1_method_20_code (4 : Nat) (Option.some Jvm.ClassFile.FieldType.int)) ∈ lw_all := lw_g (lw_at lw_m4 237 rfl) rfl
theorem q1043 : (Jvm.Cond.methodLink "ScaleInspection" (159 : Nat) ({ cls := "java/lang/Math", name := "max", desc := "(II)I" } : Jvm.MethodName)) ∈ lw_all := lw_g (lw_at lw_m4 238 rfl) rfl
theorem q1045 : (Jvm.Cond.instanceMethod ({ cls := "ScaleInspection", name := "twoPans", desc := "(I)I" } : Jvm.MethodName)) ∈ lw_all := lw_g (lw_at lw_m5 0 rfl) rfl
theorem q1046 : (Jvm.Cond.selects "ScaleInspection" ({ cls := "ScaleInspection", name := "twoPans", desc := "(I)I" } : Jvm.MethodName) ({ cls := "ScaleInspection", name := "twoPans", desc := "(I)I" } : Jvm.MethodName)) ∈ lw_all := lw_g (lw_at lw_m5 1 rfl) rfl
theorem q1047 : (Jvm.Cond.code ({ cls := "ScaleInspection", name := "twoPans", desc := "(I)I" } : Jvm.MethodName) prog_1_method_23_code (2 : Nat) (Option.some Jvm.ClassFile.FieldType.int)) ∈ lw_all := lw_g (lw_at lw_m5 2 rfl) rfl
theorem q1048 : (Jvm.Cond.methodLink "ScaleInspection" (175 : Nat) ({ cls := "ScaleInspection", name := "place", desc := "(IIII)V" } : Jvm.MethodName)) ∈ lw_all := lw_g (lw_at lw_m5 3 rfl) rfl
theorem q1049 : (Jvm.Cond.privateMethod ({ cls := "ScaleInspection", name := "place", desc := "(IIII)V" } : Jvm.MethodName)) ∈ lw_tbl := lw_at lw_m5 4 rfl
theorem q1050 : (Jvm.Cond.instanceMethod ({ cls := "ScaleInspection", name := "place", desc := "(IIII)V" } : Jvm.MethodName)) ∈ lw_all := lw_g (lw_at lw_m5 5 rfl) rfl
theorem q1051 : (Jvm.Cond.code ({ cls := "ScaleInspection", name := "place", desc := "(IIII)V" } : Jvm.MethodName) prog_1_method_21_code (5 : Nat) (Option.none : Option Jvm.ClassFile.FieldType)) ∈ lw_all := lw_g (lw_at lw_m5 6 rfl) rfl
theorem q1052 : (Jvm.Cond.methodLink "ScaleInspection" (165 : Nat) ({ cls := "ScaleInspection", name := "isBetterPair", desc := "(II)Z" } : Jvm.MethodName)) ∈ lw_all := lw_g (lw_at lw_m5 7 rfl) rfl
theorem q1053 : (Jvm.Cond.privateMethod ({ cls := "ScaleInspection", name := "isBetterPair", desc := "(II)Z" } : Jvm.MethodName)) ∈ lw_tbl := lw_at lw_m5 8 rfl
theorem q1054 : (Jvm.Cond.instanceMethod ({ cls := "ScaleInspection", name := "isBetterPair", desc := "(II)Z" } : Jvm.MethodName)) ∈ lw_all := lw_g (lw_at lw_m5 9 rfl) rfl
theorem q1055 : (Jvm.Cond.code ({ cls := "ScaleInspection", name := "isBetterPair", desc := "(II)Z" } : Jvm.MethodName) prog_1_method_22_code (4 : Nat) (Option.some Jvm.ClassFile.FieldType.boolean)) ∈ lw_all := lw_g (lw_at lw_m5 10 rfl) rfl
theorem q1057 : (Jvm.Cond.instanceMethod ({ cls := "ScaleInspection", name := "startVisit", desc := "(II)I" } : Jvm.MethodName)) ∈ lw_all := lw_g (lw_at lw_m5 12 rfl) rfl
theorem q1058 : (Jvm.Cond.selects "ScaleInspection" ({ cls := "ScaleInspection", name := "startVisit", desc := "(II)I" } : Jvm.MethodName) ({ cls := "ScaleInspection", name := "startVisit", desc := "(II)I" } : Jvm.MethodName)) ∈ lw_all := lw_g (lw_at lw_m5 13 rfl) rfl
theorem q1059 : (Jvm.Cond.code ({ cls := "ScaleInspection", name := "startVisit", desc := "(II)I" } : Jvm.MethodName) prog_1_method_27_code (7 : Nat) (Option.some Jvm.ClassFile.FieldType.int)) ∈ lw_all := lw_g (lw_at lw_m5 14 rfl) rfl
theorem q1060 : (Jvm.Cond.methodLink "ScaleInspection" (194 : Nat) ({ cls := "ScaleInspection", name := "isDay", desc := "(I)Z" } : Jvm.MethodName)) ∈ lw_all := lw_g (lw_at lw_m5 15 rfl) rfl
theorem q1061 : (Jvm.Cond.static ({ cls := "ScaleInspection", name := "isDay", desc := "(I)Z" } : Jvm.MethodName)) ∈ lw_all := lw_g (lw_at lw_m5 16 rfl) rfl
theorem q1062 : (Jvm.Cond.code ({ cls := "ScaleInspection", name := "isDay", desc := "(I)Z" } : Jvm.MethodName) prog_1_method_14_code (1 : Nat) (Option.some Jvm.ClassFile.FieldType.boolean)) ∈ lw_all := lw_g (lw_at lw_m5 17 rfl) rfl
theorem q1063 : (Jvm.Cond.constantLong "ScaleInspection" (123 : Nat) (9999 : Int64)) ∈ lw_all := lw_g (lw_at lw_m5 18 rfl) rfl
theorem q1064 : (Jvm.Cond.classLink "ScaleInspection" (183 : Nat) "ScaleInspection$Visit") ∈ lw_all := lw_g (lw_at lw_m5 19 rfl) rfl
theorem q1065 : (Jvm.Cond.methodLink "ScaleInspection" (200 : Nat) ({ cls := "ScaleInspection$Visit", name := "isClosed", desc := "()Z" } : Jvm.MethodName)) ∈ lw_all := lw_g (lw_at lw_m5 20 rfl) rfl
theorem q1069 : (Jvm.Cond.methodLink "ScaleInspection" (207 : Nat) ({ cls := "ScaleInspection", name := "keep", desc := "()V" } : Jvm.MethodName)) ∈ lw_all := lw_g (lw_at lw_m5 24 rfl) rfl
theorem q1070 : (Jvm.Cond.privateMethod ({ cls := "ScaleInspection", name := "keep", desc := "()V" } : Jvm.MethodName)) ∈ lw_tbl := lw_at lw_m5 25 rfl
theorem q1071 : (Jvm.Cond.instanceMethod ({ cls := "ScaleInspection", name := "keep", desc := "()V" } : Jvm.MethodName)) ∈ lw_all := lw_g (lw_at lw_m5 26 rfl) rfl
theorem q1072 : (Jvm.Cond.code ({ cls := "ScaleInspection", name := "keep", desc := "()V" } : Jvm.MethodName) prog_1_method_26_code (1 : Nat) (Option.none : Option Jvm.ClassFile.FieldType)) ∈ lw_all := lw_g (lw_at lw_m5 27 rfl) rfl
theorem q1073 : (Jvm.Cond.methodLink "ScaleInspection" (187 : Nat) ({ cls := "java/util/ArrayList", name := "remove", desc := "(I)Ljava/lang/Object;" } : Jvm.MethodName)) ∈ lw_all := lw_g (lw_at lw_m5 28 rfl) rfl
theorem q1082 : (Jvm.Cond.methodLink "ScaleInspection" (190 : Nat) ({ cls := "ScaleInspection$Entry", name := "copy", desc := "()LScaleInspection$Entry;" } : Jvm.MethodName)) ∈ lw_all := lw_g (lw_at lw_m5 37 rfl) rfl
theorem q1103 : (Jvm.Cond.fieldLinkNest "ScaleInspection" (182 : Nat) "ScaleInspection$Visit" "scale" "I" "ScaleInspection") ∈ lw_tbl := lw_at lw_m5 58 rfl
theorem q1105 : (Jvm.Cond.fieldLinkNest "ScaleInspection" (197 : Nat) "ScaleInspection$Visit" "day" "I" "ScaleInspection") ∈ lw_tbl := lw_at lw_m5 60 rfl
theorem q1107 : (Jvm.Cond.fieldLinkNest "ScaleInspection" (216 : Nat) "ScaleInspection$Visit" "tolerances" "I" "ScaleInspection") ∈ lw_tbl := lw_at lw_m5 62 rfl
theorem q1109 : (Jvm.Cond.fieldLinkNest "ScaleInspection" (230 : Nat) "ScaleInspection$Visit" "masses" "[I" "ScaleInspection") ∈ lw_tbl := lw_at lw_m5 64 rfl
theorem q1111 : (Jvm.Cond.fieldLinkNest "ScaleInspection" (231 : Nat) "ScaleInspection$Visit" "errors" "[I" "ScaleInspection") ∈ lw_tbl := lw_at lw_m5 66 rfl
theorem q1113 : (Jvm.Cond.fieldLinkNest "ScaleInspection" (227 : Nat) "ScaleInspection$Visit" "tests" "I" "ScaleInspection") ∈ lw_tbl := lw_at lw_m5 68 rfl
theorem q1115 : (Jvm.Cond.fieldLinkNest "ScaleInspection" (204 : Nat) "ScaleInspection$Visit" "verdict" "I" "ScaleInspection") ∈ lw_tbl := lw_at lw_m5 70 rfl
theorem q1147 : (Jvm.Cond.methodLink "ScaleInspection" (210 : Nat) ({ cls := "ScaleInspection$Visit", name := "<init>", desc := "(III)V" } : Jvm.MethodName)) ∈ lw_all := lw_g (lw_at lw_m5 102 rfl) rfl
theorem q1149 : (Jvm.Cond.instanceMethod ({ cls := "ScaleInspection", name := "visitCount", desc := "()I" } : Jvm.MethodName)) ∈ lw_all := lw_g (lw_at lw_m5 104 rfl) rfl
theorem q1150 : (Jvm.Cond.selects "ScaleInspection" ({ cls := "ScaleInspection", name := "visitCount", desc := "()I" } : Jvm.MethodName) ({ cls := "ScaleInspection", name := "visitCount", desc := "()I" } : Jvm.MethodName)) ∈ lw_all := lw_g (lw_at lw_m5 105 rfl) rfl
theorem q1151 : (Jvm.Cond.code ({ cls := "ScaleInspection", name := "visitCount", desc := "()I" } : Jvm.MethodName) prog_1_method_28_code (1 : Nat) (Option.some Jvm.ClassFile.FieldType.int)) ∈ lw_all := lw_g (lw_at lw_m5 106 rfl) rfl
theorem q1153 : (Jvm.Cond.instanceMethod ({ cls := "ScaleInspection", name := "visitScale", desc := "(I)I" } : Jvm.MethodName)) ∈ lw_all := lw_g (lw_at lw_m5 108 rfl) rfl
theorem q1154 : (Jvm.Cond.selects "ScaleInspection" ({ cls := "ScaleInspection", name := "visitScale", desc := "(I)I" } : Jvm.MethodName) ({ cls := "ScaleInspection", name := "visitScale", desc := "(I)I" } : Jvm.MethodName)) ∈ lw_all := lw_g (lw_at lw_m5 109 rfl) rfl
theorem q1155 : (Jvm.Cond.code ({ cls := "ScaleInspection", name := "visitScale", desc := "(I)I" } : Jvm.MethodName) prog_1_method_29_code (2 : Nat) (Option.some Jvm.ClassFile.FieldType.int)) ∈ lw_all := lw_g (lw_at lw_m5 110 rfl) rfl
theorem q1156 : (Jvm.Cond.methodLink "ScaleInspection" (213 : Nat) ({ cls := "ScaleInspection", name := "isVisit", desc := "(I)Z" } : Jvm.MethodName)) ∈ lw_all := lw_g (lw_at lw_m5 111 rfl) rfl
theorem q1157 : (Jvm.Cond.privateMethod ({ cls := "ScaleInspection", name := "isVisit", desc := "(I)Z" } : Jvm.MethodName)) ∈ lw_tbl := lw_at lw_m5 112 rfl
theorem q1158 : (Jvm.Cond.instanceMethod ({ cls := "ScaleInspection", name := "isVisit", desc := "(I)Z" } : Jvm.MethodName)) ∈ lw_all := lw_g (lw_at lw_m5 113 rfl) rfl
theorem q1159 : (Jvm.Cond.code ({ cls := "ScaleInspection", name := "isVisit", desc := "(I)Z" } : Jvm.MethodName) prog_1_method_24_code (2 : Nat) (Option.some Jvm.ClassFile.FieldType.boolean)) ∈ lw_all := lw_g (lw_at lw_m5 114 rfl) rfl
theorem q1161 : (Jvm.Cond.instanceMethod ({ cls := "ScaleInspection", name := "isInService", desc := "(I)I" } : Jvm.MethodName)) ∈ lw_all := lw_g (lw_at lw_m5 116 rfl) rfl
theorem q1162 : (Jvm.Cond.selects "ScaleInspection" ({ cls := "ScaleInspection", name := "isInService", desc := "(I)I" } : Jvm.MethodName) ({ cls := "ScaleInspection", name := "isInService", desc := "(I)I" } : Jvm.MethodName)) ∈ lw_all := lw_g (lw_at lw_m5 117 rfl) rfl
theorem q1163 : (Jvm.Cond.code ({ cls := "ScaleInspection", name := "isInService", desc := "(I)I" } : Jvm.MethodName) prog_1_method_30_code (2 : Nat) (Option.some Jvm.ClassFile.FieldType.int)) ∈ lw_all := lw_g (lw_at lw_m5 118 rfl) rfl
theorem q1165 : (Jvm.Cond.instanceMethod ({ cls := "ScaleInspection", name := "record", desc := "(III)I" } : Jvm.MethodName)) ∈ lw_all := lw_g (lw_at lw_m5 120 rfl) rfl
theorem q1166 : (Jvm.Cond.selects "ScaleInspection" ({ cls := "ScaleInspection", name := "record", desc := "(III)I" } : Jvm.MethodName) ({ cls := "ScaleInspection", name := "record", desc := "(III)I" } : Jvm.MethodName)) ∈ lw_all := lw_g (lw_at lw_m5 121 rfl) rfl
theorem q1167 : (Jvm.Cond.code ({ cls := "ScaleInspection", name := "record", desc := "(III)I" } : Jvm.MethodName) prog_1_method_31_code (6 : Nat) (Option.some Jvm.ClassFile.FieldType.int)) ∈ lw_all := lw_g (lw_at lw_m5 122 rfl) rfl
theorem q1168 : (Jvm.Cond.methodLink "ScaleInspection" (219 : Nat) ({ cls := "ScaleInspection", name := "scaleOf", desc := "(LScaleInspection$Visit;)LScaleInspection$Scale;" } : Jvm.MethodName)) ∈ lw_all := lw_g (lw_at lw_m5 123 rfl) rfl
theorem q1169 : (Jvm.Cond.privateMethod ({ cls := "ScaleInspection", name := "scaleOf", desc := "(LScaleInspection$Visit;)LScaleInspection$Scale;" } : Jvm.MethodName)) ∈ lw_tbl := lw_at lw_m5 124 rfl
theorem q1170 : (Jvm.Cond.instanceMethod ({ cls := "ScaleInspection", name := "scaleOf", desc := "(LScaleInspection$Visit;)LScaleInspection$Scale;" } : Jvm.MethodName)) ∈ lw_all := lw_g (lw_at lw_m5 125 rfl) rfl
theorem q1171 : (Jvm.Cond.code ({ cls := "ScaleInspection", name := "scaleOf", desc := "(LScaleInspection$Visit;)LScaleInspection$Scale;" } : Jvm.MethodName) prog_1_method_25_code (2 : Nat) (Option.some (Jvm.ClassFile.FieldType.object "ScaleInspection$Scale"))) ∈ lw_all := lw_g (lw_at lw_m5 126 rfl) rfl
theorem q1172 : (Jvm.Cond.constantLong "ScaleInspection" (223 : Nat) (-1999999 : Int64)) ∈ lw_all := lw_g (lw_at lw_m5 127 rfl) rfl
theorem q1173 : (Jvm.Cond.constantLong "ScaleInspection" (225 : Nat) (1999999 : Int64)) ∈ lw_all := lw_g (lw_at lw_m5 128 rfl) rfl
theorem q1175 : (Jvm.Cond.instanceMethod ({ cls := "ScaleInspection", name := "testCount", desc := "(I)I" } : Jvm.MethodName)) ∈ lw_all := lw_g (lw_at lw_m5 130 rfl) rfl
theorem q1176 : (Jvm.Cond.selects "ScaleInspection" ({ cls := "ScaleInspection", name := "testCount", desc := "(I)I" } : Jvm.MethodName) ({ cls := "ScaleInspection", name := "testCount", desc := "(I)I" } : Jvm.MethodName)) ∈ lw_all := lw_g (lw_at lw_m5 131 rfl) rfl
theorem q1177 : (Jvm.Cond.code ({ cls := "ScaleInspection", name := "testCount", desc := "(I)I" } : Jvm.MethodName) prog_1_method_32_code (2 : Nat) (Option.some Jvm.ClassFile.FieldType.int)) ∈ lw_all := lw_g (lw_at lw_m5 132 rfl) rfl
theorem q1179 : (Jvm.Cond.instanceMethod ({ cls := "ScaleInspection", name := "verdict", desc := "(I)I" } : Jvm.MethodName)) ∈ lw_all := lw_g (lw_at lw_m5 134 rfl) rfl
theorem q1180 : (Jvm.Cond.selects "ScaleInspection" ({ cls := "ScaleInspection", name := "verdict", desc := "(I)I" } : Jvm.MethodName) ({ cls := "ScaleInspection", name := "verdict", desc := "(I)I" } : Jvm.MethodName)) ∈ lw_all := lw_g (lw_at lw_m5 135 rfl) rfl
theorem q1181 : (Jvm.Cond.code ({ cls := "ScaleInspection", name := "verdict", desc := "(I)I" } : Jvm.MethodName) prog_1_method_44_code (2 : Nat) (Option.some Jvm.ClassFile.FieldType.int)) ∈ lw_all := lw_g (lw_at lw_m5 136 rfl) rfl
theorem q1182 : (Jvm.Cond.methodLink "ScaleInspection" (261 : Nat) ({ cls := "ScaleInspection", name := "verdictOf", desc := "(LScaleInspection$Visit;I)I" } : Jvm.MethodName)) ∈ lw_all := lw_g (lw_at lw_m5 137 rfl) rfl
theorem q1183 : (Jvm.Cond.privateMethod ({ cls := "ScaleInspection", name := "verdictOf", desc := "(LScaleInspection$Visit;I)I" } : Jvm.MethodName)) ∈ lw_tbl := lw_at lw_m5 138 rfl
theorem q1184 : (Jvm.Cond.instanceMethod ({ cls := "ScaleInspection", name := "verdictOf", desc := "(LScaleInspection$Visit;I)I" } : Jvm.MethodName)) ∈ lw_all := lw_g (lw_at lw_m5 139 rfl) rfl
theorem q1185 : (Jvm.Cond.code ({ cls := "ScaleInspection", name := "verdictOf", desc := "(LScaleInspection$Visit;I)I" } : Jvm.MethodName) prog_1_method_43_code (4 : Nat) (Option.some Jvm.ClassFile.FieldType.int)) ∈ lw_all := lw_g (lw_at lw_m5 140 rfl) rfl
theorem q1186 : (Jvm.Cond.methodLink "ScaleInspection" (248 : Nat) ({ cls := "ScaleInspection", name := "hasEmptyTest", desc := "(LScaleInspection$Visit;)Z" } : Jvm.MethodName)) ∈ lw_all := lw_g (lw_at lw_m5 141 rfl) rfl
theorem q1187 : (Jvm.Cond.privateMethod ({ cls := "ScaleInspection", name := "hasEmptyTest", desc := "(LScaleInspection$Visit;)Z" } : Jvm.MethodName)) ∈ lw_tbl := lw_at lw_m5 142 rfl
theorem q1188 : (Jvm.Cond.instanceMethod ({ cls := "ScaleInspection", name := "hasEmptyTest", desc := "(LScaleInspection$Visit;)Z" } : Jvm.MethodName)) ∈ lw_all := lw_g (lw_at lw_m5 143 rfl) rfl
theorem q1189 : (Jvm.Cond.code ({ cls := "ScaleInspection", name := "hasEmptyTest", desc := "(LScaleInspection$Visit;)Z" } : Jvm.MethodName) prog_1_method_40_code (3 : Nat) (Option.some Jvm.ClassFile.FieldType.boolean)) ∈ lw_all := lw_g (lw_at lw_m5 144 rfl) rfl
theorem q1190 : (Jvm.Cond.methodLink "ScaleInspection" (252 : Nat) ({ cls := "ScaleInspection", name := "hasHighLoad", desc := "(LScaleInspection$Visit;)Z" } : Jvm.MethodName)) ∈ lw_all := lw_g (lw_at lw_m5 145 rfl) rfl
theorem q1191 : (Jvm.Cond.privateMethod ({ cls := "ScaleInspection", name := "hasHighLoad", desc := "(LScaleInspection$Visit;)Z" } : Jvm.MethodName)) ∈ lw_tbl := lw_at lw_m5 146 rfl
theorem q1192 : (Jvm.Cond.instanceMethod ({ cls := "ScaleInspection", name := "hasHighLoad", desc := "(LScaleInspection$Visit;)Z" } : Jvm.MethodName)) ∈ lw_all := lw_g (lw_at lw_m5 147 rfl) rfl
theorem q1193 : (Jvm.Cond.code ({ cls := "ScaleInspection", name := "hasHighLoad", desc := "(LScaleInspection$Visit;)Z" } : Jvm.MethodName) prog_1_method_39_code (3 : Nat) (Option.some Jvm.ClassFile.FieldType.boolean)) ∈ lw_all := lw_g (lw_at lw_m5 148 rfl) rfl
theorem q1194 : (Jvm.Cond.methodLink "ScaleInspection" (255 : Nat) ({ cls := "ScaleInspection", name := "hasRepeated", desc := "(LScaleInspection$Visit;)Z" } : Jvm.MethodName)) ∈ lw_all := lw_g (lw_at lw_m5 149 rfl) rfl
theorem q1195 : (Jvm.Cond.privateMethod ({ cls := "ScaleInspection", name := "hasRepeated", desc := "(LScaleInspection$Visit;)Z" } : Jvm.MethodName)) ∈ lw_tbl := lw_at lw_m5 150 rfl
theorem q1196 : (Jvm.Cond.instanceMethod ({ cls := "ScaleInspection", name := "hasRepeated", desc := "(LScaleInspection$Visit;)Z" } : Jvm.MethodName)) ∈ lw_all := lw_g (lw_at lw_m5 151 rfl) rfl
theorem q1197 : (Jvm.Cond.code ({ cls := "ScaleInspection", name := "hasRepeated", desc := "(LScaleInspection$Visit;)Z" } : Jvm.MethodName) prog_1_method_41_code (4 : Nat) (Option.some Jvm.ClassFile.FieldType.boolean)) ∈ lw_all := lw_g (lw_at lw_m5 152 rfl) rfl
theorem q1198 : (Jvm.Cond.methodLink "ScaleInspection" (244 : Nat) ({ cls := "ScaleInspection", name := "passes", desc := "(LScaleInspection$Visit;II)Z" } : Jvm.MethodName)) ∈ lw_all := lw_g (lw_at lw_m5 153 rfl) rfl
theorem q1199 : (Jvm.Cond.privateMethod ({ cls := "ScaleInspection", name := "passes", desc := "(LScaleInspection$Visit;II)Z" } : Jvm.MethodName)) ∈ lw_tbl := lw_at lw_m5 154 rfl
theorem q1200 : (Jvm.Cond.instanceMethod ({ cls := "ScaleInspection", name := "passes", desc := "(LScaleInspection$Visit;II)Z" } : Jvm.MethodName)) ∈ lw_all := lw_g (lw_at lw_m5 155 rfl) rfl
theorem q1201 : (Jvm.Cond.code ({ cls := "ScaleInspection", name := "passes", desc := "(LScaleInspection$Visit;II)Z" } : Jvm.MethodName) prog_1_method_37_code (4 : Nat) (Option.some Jvm.ClassFile.FieldType.boolean)) ∈ lw_all := lw_g (lw_at lw_m5 156 rfl) rfl
theorem q1202 : (Jvm.Cond.methodLink "ScaleInspection" (238 : Nat) ({ cls := "java/lang/Math", name := "abs", desc := "(I)I" } : Jvm.MethodName)) ∈ lw_all := lw_g (lw_at lw_m5 157 rfl) rfl
theorem q1205 : (Jvm.Cond.methodLink "ScaleInspection" (241 : Nat) ({ cls := "ScaleInspection", name := "tolerance", desc := "(LScaleInspection$Visit;I)I" } : Jvm.MethodName)) ∈ lw_all := lw_g (lw_at lw_m5 160 rfl) rfl
theorem q1206 : (Jvm.Cond.privateMethod ({ cls := "ScaleInspection", name := "tolerance", desc := "(LScaleInspection$Visit;I)I" } : Jvm.MethodName)) ∈ lw_tbl := lw_at lw_m5 161 rfl
theorem q1207 : (Jvm.Cond.instanceMethod ({ cls := "ScaleInspection", name := "tolerance", desc := "(LScaleInspection$Visit;I)I" } : Jvm.MethodName)) ∈ lw_all := lw_g (lw_at lw_m5 162 rfl) rfl
theorem q1208 : (Jvm.Cond.code ({ cls := "ScaleInspection", name := "tolerance", desc := "(LScaleInspection$Visit;I)I" } : Jvm.MethodName) prog_1_method_36_code (3 : Nat) (Option.some Jvm.ClassFile.FieldType.int)) ∈ lw_all := lw_g (lw_at lw_m5 163 rfl) rfl
theorem q1209 : (Jvm.Cond.methodLink "ScaleInspection" (143 : Nat) ({ cls := "ScaleInspection$Scale", name := "tolerance", desc := "(I)I" } : Jvm.MethodName)) ∈ lw_all := lw_g (lw_at lw_m5 164 rfl) rfl
theorem q1244 : (Jvm.Cond.methodLink "ScaleInspection" (258 : Nat) ({ cls := "ScaleInspection", name := "isSteady", desc := "(LScaleInspection$Visit;)Z" } : Jvm.MethodName)) ∈ lw_all := lw_g (lw_at lw_m5 199 rfl) rfl
theorem q1245 : (Jvm.Cond.privateMethod ({ cls := "ScaleInspection", name := "isSteady", desc := "(LScaleInspection$Visit;)Z" } : Jvm.MethodName)) ∈ lw_tbl := lw_at lw_m5 200 rfl
theorem q1246 : (Jvm.Cond.instanceMethod ({ cls := "ScaleInspection", name := "isSteady", desc := "(LScaleInspection$Visit;)Z" } : Jvm.MethodName)) ∈ lw_all := lw_g (lw_at lw_m5 201 rfl) rfl
theorem q1247 : (Jvm.Cond.code ({ cls := "ScaleInspection", name := "isSteady", desc := "(LScaleInspection$Visit;)Z" } : Jvm.MethodName) prog_1_method_42_code (4 : Nat) (Option.some Jvm.ClassFile.FieldType.boolean)) ∈ lw_all := lw_g (lw_at lw_m5 202 rfl) rfl
theorem q1249 : (Jvm.Cond.instanceMethod ({ cls := "ScaleInspection", name := "adjustedVerdict", desc := "(I)I" } : Jvm.MethodName)) ∈ lw_all := lw_g (lw_at lw_m5 204 rfl) rfl
theorem q1250 : (Jvm.Cond.selects "ScaleInspection" ({ cls := "ScaleInspection", name := "adjustedVerdict", desc := "(I)I" } : Jvm.MethodName) ({ cls := "ScaleInspection", name := "adjustedVerdict", desc := "(I)I" } : Jvm.MethodName)) ∈ lw_all := lw_g (lw_at lw_m5 205 rfl) rfl
theorem q1251 : (Jvm.Cond.code ({ cls := "ScaleInspection", name := "adjustedVerdict", desc := "(I)I" } : Jvm.MethodName) prog_1_method_47_code (2 : Nat) (Option.some Jvm.ClassFile.FieldType.int)) ∈ lw_all := lw_g (lw_at lw_m5 206 rfl) rfl
theorem q1252 : (Jvm.Cond.methodLink "ScaleInspection" (273 : Nat) ({ cls := "ScaleInspection", name := "adjustmentOf", desc := "(LScaleInspection$Visit;)I" } : Jvm.MethodName)) ∈ lw_all := lw_g (lw_at lw_m5 207 rfl) rfl
theorem q1253 : (Jvm.Cond.privateMethod ({ cls := "ScaleInspection", name := "adjustmentOf", desc := "(LScaleInspection$Visit;)I" } : Jvm.MethodName)) ∈ lw_tbl := lw_at lw_m5 208 rfl
theorem q1254 : (Jvm.Cond.instanceMethod ({ cls := "ScaleInspection", name := "adjustmentOf", desc := "(LScaleInspection$Visit;)I" } : Jvm.MethodName)) ∈ lw_all := lw_g (lw_at lw_m5 209 rfl) rfl
theorem q1255 : (Jvm.Cond.code ({ cls := "ScaleInspection", name := "adjustmentOf", desc := "(LScaleInspection$Visit;)I" } : Jvm.MethodName) prog_1_method_45_code (5 : Nat) (Option.some Jvm.ClassFile.FieldType.int)) ∈ lw_all := lw_g (lw_at lw_m5 210 rfl) rfl
theorem q1256 : (Jvm.Cond.methodLink "ScaleInspection" (264 : Nat) ({ cls := "java/lang/Math", name := "min", desc := "(II)I" } : Jvm.MethodName)) ∈ lw_all := lw_g (lw_at lw_m5 211 rfl) rfl
theorem q1257 : (Jvm.Cond.methodLink "ScaleInspection" (267 : Nat) ({ cls := "java/lang/Math", name := "floorDiv", desc := "(II)I" } : Jvm.MethodName)) ∈ lw_all := lw_g (lw_at lw_m5 212 rfl) rfl
theorem q1261 : (Jvm.Cond.instanceMethod ({ cls := "ScaleInspection", name := "closeVisit", desc := "(I)I" } : Jvm.MethodName)) ∈ lw_all := lw_g (lw_at lw_m5 216 rfl) rfl
theorem q1262 : (Jvm.Cond.selects "ScaleInspection" ({ cls := "ScaleInspection", name := "closeVisit", desc := "(I)I" } : Jvm.MethodName) ({ cls := "ScaleInspection", name := "closeVisit", desc := "(I)I" } : Jvm.MethodName)) ∈ lw_all := lw_g (lw_at lw_m5 217 rfl) rfl
theorem q1263 : (Jvm.Cond.code ({ cls := "ScaleInspection", name := "closeVisit", desc := "(I)I" } : Jvm.MethodName) prog_1_method_48_code (3 : Nat) (Option.some Jvm.ClassFile.FieldType.int)) ∈ lw_all := lw_g (lw_at lw_m5 218 rfl) rfl
theorem q1265 : (Jvm.Cond.instanceMethod ({ cls := "ScaleInspection", name := "isClosed", desc := "(I)I" } : Jvm.MethodName)) ∈ lw_all := lw_g (lw_at lw_m5 220 rfl) rfl
theorem q1266 : (Jvm.Cond.selects "ScaleInspection" ({ cls := "ScaleInspection", name := "isClosed", desc := "(I)I" } : Jvm.MethodName) ({ cls := "ScaleInspection", name := "isClosed", desc := "(I)I" } : Jvm.MethodName)) ∈ lw_all := lw_g (lw_at lw_m5 221 rfl) rfl
theorem q1267 : (Jvm.Cond.code ({ cls := "ScaleInspection", name := "isClosed", desc := "(I)I" } : Jvm.MethodName) prog_1_method_49_code (2 : Nat) (Option.some Jvm.ClassFile.FieldType.int)) ∈ lw_all := lw_g (lw_at lw_m5 222 rfl) rfl
theorem q1269 : (Jvm.Cond.instanceMethod ({ cls := "ScaleInspection", name := "sealState", desc := "(II)I" } : Jvm.MethodName)) ∈ lw_all := lw_g (lw_at lw_m5 224 rfl) rfl
theorem q1270 : (Jvm.Cond.selects "ScaleInspection" ({ cls := "ScaleInspection", name := "sealState", desc := "(II)I" } : Jvm.MethodName) ({ cls := "ScaleInspection", name := "sealState", desc := "(II)I" } : Jvm.MethodName)) ∈ lw_all := lw_g (lw_at lw_m5 225 rfl) rfl
theorem q1271 : (Jvm.Cond.code ({ cls := "ScaleInspection", name := "sealState", desc := "(II)I" } : Jvm.MethodName) prog_1_method_53_code (3 : Nat) (Option.some Jvm.ClassFile.FieldType.int)) ∈ lw_all := lw_g (lw_at lw_m5 226 rfl) rfl
theorem q1272 : (Jvm.Cond.methodLink "ScaleInspection" (289 : Nat) ({ cls := "ScaleInspection", name := "stateOf", desc := "(II)I" } : Jvm.MethodName)) ∈ lw_all := lw_g (lw_at lw_m5 227 rfl) rfl
theorem q1273 : (Jvm.Cond.privateMethod ({ cls := "ScaleInspection", name := "stateOf", desc := "(II)I" } : Jvm.MethodName)) ∈ lw_tbl := lw_at lw_m5 228 rfl
theorem q1274 : (Jvm.Cond.instanceMethod ({ cls := "ScaleInspection", name := "stateOf", desc := "(II)I" } : Jvm.MethodName)) ∈ lw_all := lw_g (lw_at lw_m5 229 rfl) rfl
theorem q1275 : (Jvm.Cond.code ({ cls := "ScaleInspection", name := "stateOf", desc := "(II)I" } : Jvm.MethodName) prog_1_method_52_code (4 : Nat) (Option.some Jvm.ClassFile.FieldType.int)) ∈ lw_all := lw_g (lw_at lw_m5 230 rfl) rfl
theorem q1276 : (Jvm.Cond.methodLink "ScaleInspection" (283 : Nat) ({ cls := "ScaleInspection", name := "lastClosed", desc := "(II)LScaleInspection$Visit;" } : Jvm.MethodName)) ∈ lw_all := lw_g (lw_at lw_m5 231 rfl) rfl
theorem q1277 : (Jvm.Cond.privateMethod ({ cls := "ScaleInspection", name := "lastClosed", desc := "(II)LScaleInspection$Visit;" } : Jvm.MethodName)) ∈ lw_tbl := lw_at lw_m5 232 rfl
theorem q1278 : (Jvm.Cond.instanceMethod ({ cls := "ScaleInspection", name := "lastClosed", desc := "(II)LScaleInspection$Visit;" } : Jvm.MethodName)) ∈ lw_all := lw_g (lw_at lw_m5 233 rfl) rfl
theorem q1279 : (Jvm.Cond.code ({ cls := "ScaleInspection", name := "lastClosed", desc := "(II)LScaleInspection$Visit;" } : Jvm.MethodName) prog_1_method_50_code (6 : Nat) (Option.some (Jvm.ClassFile.FieldType.object "ScaleInspection$Visit"))) ∈ lw_all := lw_g (lw_at lw_m5 234 rfl) rfl
theorem q1280 : (Jvm.Cond.methodLink "ScaleInspection" (286 : Nat) ({ cls := "ScaleInspection", name := "expiryYear", desc := "(LScaleInspection$Visit;)I" } : Jvm.MethodName)) ∈ lw_all := lw_g (lw_at lw_m5 235 rfl) rfl
theorem q1281 : (Jvm.Cond.privateMethod ({ cls := "ScaleInspection", name := "expiryYear", desc := "(LScaleInspection$Visit;)I" } : Jvm.MethodName)) ∈ lw_tbl := lw_at lw_m5 236 rfl
theorem q1282 : (Jvm.Cond.instanceMethod ({ cls := "ScaleInspection", name := "expiryYear", desc := "(LScaleInspection$Visit;)I" } : Jvm.MethodName)) ∈ lw_all := lw_g (lw_at lw_m5 237 rfl) rfl
theorem q1283 : (Jvm.Cond.code ({ cls := "ScaleInspection", name := "expiryYear", desc := "(LScaleInspection$Visit;)I" } : Jvm.MethodName) prog_1_method_51_code (2 : Nat) (Option.some Jvm.ClassFile.FieldType.int)) ∈ lw_all := lw_g (lw_at lw_m5 238 rfl) rfl
theorem q1285 : (Jvm.Cond.instanceMethod ({ cls := "ScaleInspection", name := "expiryDay", desc := "(II)I" } : Jvm.MethodName)) ∈ lw_all := lw_g (lw_at lw_m6 0 rfl) rfl
theorem q1286 : (Jvm.Cond.selects "ScaleInspection" ({ cls := "ScaleInspection", name := "expiryDay", desc := "(II)I" } : Jvm.MethodName) ({ cls := "ScaleInspection", name := "expiryDay", desc := "(II)I" } : Jvm.MethodName)) ∈ lw_all := lw_g (lw_at lw_m6 1 rfl) rfl
theorem q1287 : (Jvm.Cond.code ({ cls := "ScaleInspection", name := "expiryDay", desc := "(II)I" } : Jvm.MethodName) prog_1_method_54_code (3 : Nat) (Option.some Jvm.ClassFile.FieldType.int)) ∈ lw_all := lw_g (lw_at lw_m6 2 rfl) rfl
theorem q1289 : (Jvm.Cond.instanceMethod ({ cls := "ScaleInspection", name := "scalesWith", desc := "(II)I" } : Jvm.MethodName)) ∈ lw_all := lw_g (lw_at lw_m6 4 rfl) rfl
theorem q1290 : (Jvm.Cond.selects "ScaleInspection" ({ cls := "ScaleInspection", name := "scalesWith", desc := "(II)I" } : Jvm.MethodName) ({ cls := "ScaleInspection", name := "scalesWith", desc := "(II)I" } : Jvm.MethodName)) ∈ lw_all := lw_g (lw_at lw_m6 5 rfl) rfl
theorem q1291 : (Jvm.Cond.code ({ cls := "ScaleInspection", name := "scalesWith", desc := "(II)I" } : Jvm.MethodName) prog_1_method_55_code (5 : Nat) (Option.some Jvm.ClassFile.FieldType.int)) ∈ lw_all := lw_g (lw_at lw_m6 6 rfl) rfl
theorem q1292 : (Jvm.Cond.constantLong "ScaleInspection" (292 : Nat) (3 : Int64)) ∈ lw_all := lw_g (lw_at lw_m6 7 rfl) rfl
theorem q1294 : (Jvm.Cond.instanceMethod ({ cls := "ScaleInspection", name := "risk", desc := "(II)I" } : Jvm.MethodName)) ∈ lw_all := lw_g (lw_at lw_m6 9 rfl) rfl
theorem q1295 : (Jvm.Cond.selects "ScaleInspection" ({ cls := "ScaleInspection", name := "risk", desc := "(II)I" } : Jvm.MethodName) ({ cls := "ScaleInspection", name := "risk", desc := "(II)I" } : Jvm.MethodName)) ∈ lw_all := lw_g (lw_at lw_m6 10 rfl) rfl
theorem q1296 : (Jvm.Cond.code ({ cls := "ScaleInspection", name := "risk", desc := "(II)I" } : Jvm.MethodName) prog_1_method_57_code (3 : Nat) (Option.some Jvm.ClassFile.FieldType.int)) ∈ lw_all := lw_g (lw_at lw_m6 11 rfl) rfl
theorem q1297 : (Jvm.Cond.methodLink "ScaleInspection" (294 : Nat) ({ cls := "ScaleInspection", name := "riskOf", desc := "(II)I" } : Jvm.MethodName)) ∈ lw_all := lw_g (lw_at lw_m6 12 rfl) rfl
theorem q1298 : (Jvm.Cond.privateMethod ({ cls := "ScaleInspection", name := "riskOf", desc := "(II)I" } : Jvm.MethodName)) ∈ lw_tbl := lw_at lw_m6 13 rfl
theorem q1299 : (Jvm.Cond.instanceMethod ({ cls := "ScaleInspection", name := "riskOf", desc := "(II)I" } : Jvm.MethodName)) ∈ lw_all := lw_g (lw_at lw_m6 14 rfl) rfl
theorem q1300 : (Jvm.Cond.code ({ cls := "ScaleInspection", name := "riskOf", desc := "(II)I" } : Jvm.MethodName) prog_1_method_56_code (7 : Nat) (Option.some Jvm.ClassFile.FieldType.int)) ∈ lw_all := lw_g (lw_at lw_m6 15 rfl) rfl
theorem q1302 : (Jvm.Cond.instanceMethod ({ cls := "ScaleInspection", name := "riskiestTrader", desc := "(I)I" } : Jvm.MethodName)) ∈ lw_all := lw_g (lw_at lw_m6 17 rfl) rfl
theorem q1303 : (Jvm.Cond.selects "ScaleInspection" ({ cls := "ScaleInspection", name := "riskiestTrader", desc := "(I)I" } : Jvm.MethodName) ({ cls := "ScaleInspection", name := "riskiestTrader", desc := "(I)I" } : Jvm.MethodName)) ∈ lw_all := lw_g (lw_at lw_m6 18 rfl) rfl
theorem q1304 : (Jvm.Cond.code ({ cls := "ScaleInspection", name := "riskiestTrader", desc := "(I)I" } : Jvm.MethodName) prog_1_method_59_code (6 : Nat) (Option.some Jvm.ClassFile.FieldType.int)) ∈ lw_all := lw_g (lw_at lw_m6 19 rfl) rfl
theorem q1305 : (Jvm.Cond.methodLink "ScaleInspection" (297 : Nat) ({ cls := "ScaleInspection", name := "traderRisk", desc := "(II)I" } : Jvm.MethodName)) ∈ lw_all := lw_g (lw_at lw_m6 20 rfl) rfl
theorem q1306 : (Jvm.Cond.privateMethod ({ cls := "ScaleInspection", name := "traderRisk", desc := "(II)I" } : Jvm.MethodName)) ∈ lw_tbl := lw_at lw_m6 21 rfl
theorem q1307 : (Jvm.Cond.instanceMethod ({ cls := "ScaleInspection", name := "traderRisk", desc := "(II)I" } : Jvm.MethodName)) ∈ lw_all := lw_g (lw_at lw_m6 22 rfl) rfl
theorem q1308 : (Jvm.Cond.code ({ cls := "ScaleInspection", name := "traderRisk", desc := "(II)I" } : Jvm.MethodName) prog_1_method_58_code (5 : Nat) (Option.some Jvm.ClassFile.FieldType.int)) ∈ lw_all := lw_g (lw_at lw_m6 23 rfl) rfl
theorem q1310 : (Jvm.Cond.instanceMethod ({ cls := "ScaleInspection", name := "lot", desc := "(III)I" } : Jvm.MethodName)) ∈ lw_all := lw_g (lw_at lw_m6 25 rfl) rfl
theorem q1311 : (Jvm.Cond.selects "ScaleInspection" ({ cls := "ScaleInspection", name := "lot", desc := "(III)I" } : Jvm.MethodName) ({ cls := "ScaleInspection", name := "lot", desc := "(III)I" } : Jvm.MethodName)) ∈ lw_all := lw_g (lw_at lw_m6 26 rfl) rfl
theorem q1312 : (Jvm.Cond.code ({ cls := "ScaleInspection", name := "lot", desc := "(III)I" } : Jvm.MethodName) prog_1_method_60_code (11 : Nat) (Option.some Jvm.ClassFile.FieldType.int)) ∈ lw_all := lw_g (lw_at lw_m6 27 rfl) rfl
theorem q1313 : (Jvm.Cond.constantLong "ScaleInspection" (300 : Nat) (999999 : Int64)) ∈ lw_all := lw_g (lw_at lw_m6 28 rfl) rfl
theorem q1314 : (Jvm.Cond.constantLong "ScaleInspection" (302 : Nat) (1103515245 : Int64)) ∈ lw_all := lw_g (lw_at lw_m6 29 rfl) rfl
theorem q1315 : (Jvm.Cond.constantLong "ScaleInspection" (304 : Nat) (12345 : Int64)) ∈ lw_all := lw_g (lw_at lw_m6 30 rfl) rfl
theorem q1316 : (Jvm.Cond.constantLong "ScaleInspection" (306 : Nat) (2147483648 : Int64)) ∈ lw_all := lw_g (lw_at lw_m6 31 rfl) rfl
theorem q1317 : (Jvm.Cond.constantLong "ScaleInspection" (308 : Nat) (65536 : Int64)) ∈ lw_all := lw_g (lw_at lw_m6 32 rfl) rfl
theorem q1319 : (Jvm.Cond.instanceMethod ({ cls := "ScaleInspection", name := "weightCount", desc := "(I)I" } : Jvm.MethodName)) ∈ lw_all := lw_g (lw_at lw_m6 34 rfl) rfl
theorem q1320 : (Jvm.Cond.selects "ScaleInspection" ({ cls := "ScaleInspection", name := "weightCount", desc := "(I)I" } : Jvm.MethodName) ({ cls := "ScaleInspection", name := "weightCount", desc := "(I)I" } : Jvm.MethodName)) ∈ lw_all := lw_g (lw_at lw_m6 35 rfl) rfl
theorem q1321 : (Jvm.Cond.code ({ cls := "ScaleInspection", name := "weightCount", desc := "(I)I" } : Jvm.MethodName) prog_1_method_62_code (2 : Nat) (Option.some Jvm.ClassFile.FieldType.int)) ∈ lw_all := lw_g (lw_at lw_m6 36 rfl) rfl
theorem q1322 : (Jvm.Cond.methodLink "ScaleInspection" (310 : Nat) ({ cls := "ScaleInspection", name := "isSet", desc := "(I)Z" } : Jvm.MethodName)) ∈ lw_all := lw_g (lw_at lw_m6 37 rfl) rfl
theorem q1323 : (Jvm.Cond.privateMethod ({ cls := "ScaleInspection", name := "isSet", desc := "(I)Z" } : Jvm.MethodName)) ∈ lw_tbl := lw_at lw_m6 38 rfl
theorem q1324 : (Jvm.Cond.instanceMethod ({ cls := "ScaleInspection", name := "isSet", desc := "(I)Z" } : Jvm.MethodName)) ∈ lw_all := lw_g (lw_at lw_m6 39 rfl) rfl
theorem q1325 : (Jvm.Cond.code ({ cls := "ScaleInspection", name := "isSet", desc := "(I)Z" } : Jvm.MethodName) prog_1_method_61_code (2 : Nat) (Option.some Jvm.ClassFile.FieldType.boolean)) ∈ lw_all := lw_g (lw_at lw_m6 40 rfl) rfl
theorem q1327 : (Jvm.Cond.instanceMethod ({ cls := "ScaleInspection", name := "weigh", desc := "(IIII)I" } : Jvm.MethodName)) ∈ lw_all := lw_g (lw_at lw_m6 42 rfl) rfl
theorem q1328 : (Jvm.Cond.selects "ScaleInspection" ({ cls := "ScaleInspection", name := "weigh", desc := "(IIII)I" } : Jvm.MethodName) ({ cls := "ScaleInspection", name := "weigh", desc := "(IIII)I" } : Jvm.MethodName)) ∈ lw_all := lw_g (lw_at lw_m6 43 rfl) rfl
theorem q1329 : (Jvm.Cond.code ({ cls := "ScaleInspection", name := "weigh", desc := "(IIII)I" } : Jvm.MethodName) prog_1_method_63_code (8 : Nat) (Option.some Jvm.ClassFile.FieldType.int)) ∈ lw_all := lw_g (lw_at lw_m6 44 rfl) rfl
theorem q1330 : (Jvm.Cond.constantLong "ScaleInspection" (313 : Nat) (2 : Int64)) ∈ lw_all := lw_g (lw_at lw_m6 45 rfl) rfl
theorem q1331 : (Jvm.Cond.methodLink "ScaleInspection" (315 : Nat) ({ cls := "ScaleInspection$Hypotheses", name := "after", desc := "(III)LScaleInspection$Hypotheses;" } : Jvm.MethodName)) ∈ lw_all := lw_g (lw_at lw_m6 46 rfl) rfl
theorem q1337 : (Jvm.Cond.methodLink "ScaleInspection" (319 : Nat) ({ cls := "ScaleInspection$Hypotheses", name := "count", desc := "()I" } : Jvm.MethodName)) ∈ lw_all := lw_g (lw_at lw_m6 52 rfl) rfl
theorem q1342 : (Jvm.Cond.methodLink "ScaleInspection" (324 : Nat) ({ cls := "java/util/ArrayList", name := "set", desc := "(ILjava/lang/Object;)Ljava/lang/Object;" } : Jvm.MethodName)) ∈ lw_all := lw_g (lw_at lw_m6 57 rfl) rfl
theorem q1347 : (Jvm.Cond.instanceMethod ({ cls := "ScaleInspection", name := "weighingCount", desc := "(I)I" } : Jvm.MethodName)) ∈ lw_all := lw_g (lw_at lw_m6 62 rfl) rfl
theorem q1348 : (Jvm.Cond.selects "ScaleInspection" ({ cls := "ScaleInspection", name := "weighingCount", desc := "(I)I" } : Jvm.MethodName) ({ cls := "ScaleInspection", name := "weighingCount", desc := "(I)I" } : Jvm.MethodName)) ∈ lw_all := lw_g (lw_at lw_m6 63 rfl) rfl
theorem q1349 : (Jvm.Cond.code ({ cls := "ScaleInspection", name := "weighingCount", desc := "(I)I" } : Jvm.MethodName) prog_1_method_64_code (2 : Nat) (Option.some Jvm.ClassFile.FieldType.int)) ∈ lw_all := lw_g (lw_at lw_m6 64 rfl) rfl
theorem q1351 : (Jvm.Cond.instanceMethod ({ cls := "ScaleInspection", name := "hypothesisCount", desc := "(I)I" } : Jvm.MethodName)) ∈ lw_all := lw_g (lw_at lw_m6 66 rfl) rfl
theorem q1352 : (Jvm.Cond.selects "ScaleInspection" ({ cls := "ScaleInspection", name := "hypothesisCount", desc := "(I)I" } : Jvm.MethodName) ({ cls := "ScaleInspection", name := "hypothesisCount", desc := "(I)I" } : Jvm.MethodName)) ∈ lw_all := lw_g (lw_at lw_m6 67 rfl) rfl
theorem q1353 : (Jvm.Cond.code ({ cls := "ScaleInspection", name := "hypothesisCount", desc := "(I)I" } : Jvm.MethodName) prog_1_method_65_code (2 : Nat) (Option.some Jvm.ClassFile.FieldType.int)) ∈ lw_all := lw_g (lw_at lw_m6 68 rfl) rfl
theorem q1355 : (Jvm.Cond.instanceMethod ({ cls := "ScaleInspection", name := "heavySuspects", desc := "(I)I" } : Jvm.MethodName)) ∈ lw_all := lw_g (lw_at lw_m6 70 rfl) rfl
theorem q1356 : (Jvm.Cond.selects "ScaleInspection" ({ cls := "ScaleInspection", name := "heavySuspects", desc := "(I)I" } : Jvm.MethodName) ({ cls := "ScaleInspection", name := "heavySuspects", desc := "(I)I" } : Jvm.MethodName)) ∈ lw_all := lw_g (lw_at lw_m6 71 rfl) rfl
theorem q1357 : (Jvm.Cond.code ({ cls := "ScaleInspection", name := "heavySuspects", desc := "(I)I" } : Jvm.MethodName) prog_1_method_66_code (2 : Nat) (Option.some Jvm.ClassFile.FieldType.int)) ∈ lw_all := lw_g (lw_at lw_m6 72 rfl) rfl
theorem q1359 : (Jvm.Cond.instanceMethod ({ cls := "ScaleInspection", name := "lightSuspects", desc := "(I)I" } : Jvm.MethodName)) ∈ lw_all := lw_g (lw_at lw_m6 74 rfl) rfl
theorem q1360 : (Jvm.Cond.selects "ScaleInspection" ({ cls := "ScaleInspection", name := "lightSuspects", desc := "(I)I" } : Jvm.MethodName) ({ cls := "ScaleInspection", name := "lightSuspects", desc := "(I)I" } : Jvm.MethodName)) ∈ lw_all := lw_g (lw_at lw_m6 75 rfl) rfl
theorem q1361 : (Jvm.Cond.code ({ cls := "ScaleInspection", name := "lightSuspects", desc := "(I)I" } : Jvm.MethodName) prog_1_method_67_code (2 : Nat) (Option.some Jvm.ClassFile.FieldType.int)) ∈ lw_all := lw_g (lw_at lw_m6 76 rfl) rfl
theorem q1363 : (Jvm.Cond.instanceMethod ({ cls := "ScaleInspection", name := "canBeGenuine", desc := "(I)I" } : Jvm.MethodName)) ∈ lw_all := lw_g (lw_at lw_m6 78 rfl) rfl
theorem q1364 : (Jvm.Cond.selects "ScaleInspection" ({ cls := "ScaleInspection", name := "canBeGenuine", desc := "(I)I" } : Jvm.MethodName) ({ cls := "ScaleInspection", name := "canBeGenuine", desc := "(I)I" } : Jvm.MethodName)) ∈ lw_all := lw_g (lw_at lw_m6 79 rfl) rfl
theorem q1365 : (Jvm.Cond.code ({ cls := "ScaleInspection", name := "canBeGenuine", desc := "(I)I" } : Jvm.MethodName) prog_1_method_68_code (2 : Nat) (Option.some Jvm.ClassFile.FieldType.int)) ∈ lw_all := lw_g (lw_at lw_m6 80 rfl) rfl
theorem q1367 : (Jvm.Cond.instanceMethod ({ cls := "ScaleInspection", name := "finding", desc := "(I)I" } : Jvm.MethodName)) ∈ lw_all := lw_g (lw_at lw_m6 82 rfl) rfl
theorem q1368 : (Jvm.Cond.selects "ScaleInspection" ({ cls := "ScaleInspection", name := "finding", desc := "(I)I" } : Jvm.MethodName) ({ cls := "ScaleInspection", name := "finding", desc := "(I)I" } : Jvm.MethodName)) ∈ lw_all := lw_g (lw_at lw_m6 83 rfl) rfl
theorem q1369 : (Jvm.Cond.code ({ cls := "ScaleInspection", name := "finding", desc := "(I)I" } : Jvm.MethodName) prog_1_method_69_code (3 : Nat) (Option.some Jvm.ClassFile.FieldType.int)) ∈ lw_all := lw_g (lw_at lw_m6 84 rfl) rfl
theorem q1370 : (Jvm.Cond.methodLink "ScaleInspection" (337 : Nat) ({ cls := "java/lang/Integer", name := "numberOfTrailingZeros", desc := "(I)I" } : Jvm.MethodName)) ∈ lw_all := lw_g (lw_at lw_m6 85 rfl) rfl
theorem q1375 : (Jvm.Cond.instanceMethod ({ cls := "ScaleInspection", name := "weighingsNeeded", desc := "(I)I" } : Jvm.MethodName)) ∈ lw_all := lw_g (lw_at lw_m6 90 rfl) rfl
theorem q1376 : (Jvm.Cond.selects "ScaleInspection" ({ cls := "ScaleInspection", name := "weighingsNeeded", desc := "(I)I" } : Jvm.MethodName) ({ cls := "ScaleInspection", name := "weighingsNeeded", desc := "(I)I" } : Jvm.MethodName)) ∈ lw_all := lw_g (lw_at lw_m6 91 rfl) rfl
theorem q1377 : (Jvm.Cond.code ({ cls := "ScaleInspection", name := "weighingsNeeded", desc := "(I)I" } : Jvm.MethodName) prog_1_method_72_code (2 : Nat) (Option.some Jvm.ClassFile.FieldType.int)) ∈ lw_all := lw_g (lw_at lw_m6 92 rfl) rfl
theorem q1378 : (Jvm.Cond.methodLink "ScaleInspection" (349 : Nat) ({ cls := "ScaleInspection", name := "neededFor", desc := "(ILScaleInspection$Hypotheses;)I" } : Jvm.MethodName)) ∈ lw_all := lw_g (lw_at lw_m6 93 rfl) rfl
theorem q1379 : (Jvm.Cond.privateMethod ({ cls := "ScaleInspection", name := "neededFor", desc := "(ILScaleInspection$Hypotheses;)I" } : Jvm.MethodName)) ∈ lw_tbl := lw_at lw_m6 94 rfl
theorem q1380 : (Jvm.Cond.instanceMethod ({ cls := "ScaleInspection", name := "neededFor", desc := "(ILScaleInspection$Hypotheses;)I" } : Jvm.MethodName)) ∈ lw_all := lw_g (lw_at lw_m6 95 rfl) rfl
theorem q1381 : (Jvm.Cond.code ({ cls := "ScaleInspection", name := "neededFor", desc := "(ILScaleInspection$Hypotheses;)I" } : Jvm.MethodName) prog_1_method_71_code (5 : Nat) (Option.some Jvm.ClassFile.FieldType.int)) ∈ lw_all := lw_g (lw_at lw_m6 96 rfl) rfl
theorem q1382 : (Jvm.Cond.methodLink "ScaleInspection" (341 : Nat) ({ cls := "ScaleInspection", name := "solver", desc := "(I)LScaleInspection$Solver;" } : Jvm.MethodName)) ∈ lw_all := lw_g (lw_at lw_m6 97 rfl) rfl
theorem q1383 : (Jvm.Cond.privateMethod ({ cls := "ScaleInspection", name := "solver", desc := "(I)LScaleInspection$Solver;" } : Jvm.MethodName)) ∈ lw_tbl := lw_at lw_m6 98 rfl
theorem q1384 : (Jvm.Cond.instanceMethod ({ cls := "ScaleInspection", name := "solver", desc := "(I)LScaleInspection$Solver;" } : Jvm.MethodName)) ∈ lw_all := lw_g (lw_at lw_m6 99 rfl) rfl
theorem q1385 : (Jvm.Cond.code ({ cls := "ScaleInspection", name := "solver", desc := "(I)LScaleInspection$Solver;" } : Jvm.MethodName) prog_1_method_70_code (2 : Nat) (Option.some (Jvm.ClassFile.FieldType.object "ScaleInspection$Solver"))) ∈ lw_all := lw_g (lw_at lw_m6 100 rfl) rfl
theorem q1387 : (Jvm.Cond.methodLink "ScaleInspection" (340 : Nat) ({ cls := "ScaleInspection$Solver", name := "<init>", desc := "(I)V" } : Jvm.MethodName)) ∈ lw_all := lw_g (lw_at lw_m6 102 rfl) rfl
theorem q1404 : (Jvm.Cond.methodLink "ScaleInspection" (345 : Nat) ({ cls := "ScaleInspection$Solver", name := "needed", desc := "(IIII)I" } : Jvm.MethodName)) ∈ lw_all := lw_g (lw_at lw_m6 119 rfl) rfl
theorem q1424 : (Jvm.Cond.instanceMethod ({ cls := "ScaleInspection", name := "fewestWeighings", desc := "(IZ)I" } : Jvm.MethodName)) ∈ lw_all := lw_g (lw_at lw_m6 139 rfl) rfl
theorem q1425 : (Jvm.Cond.selects "ScaleInspection" ({ cls := "ScaleInspection", name := "fewestWeighings", desc := "(IZ)I" } : Jvm.MethodName) ({ cls := "ScaleInspection", name := "fewestWeighings", desc := "(IZ)I" } : Jvm.MethodName)) ∈ lw_all := lw_g (lw_at lw_m6 140 rfl) rfl
theorem q1426 : (Jvm.Cond.code ({ cls := "ScaleInspection", name := "fewestWeighings", desc := "(IZ)I" } : Jvm.MethodName) prog_1_method_73_code (3 : Nat) (Option.some Jvm.ClassFile.FieldType.int)) ∈ lw_all := lw_g (lw_at lw_m6 141 rfl) rfl
theorem q1427 : (Jvm.Cond.constantLong "ScaleInspection" (353 : Nat) (12 : Int64)) ∈ lw_all := lw_g (lw_at lw_m6 142 rfl) rfl
theorem q1429 : (Jvm.Cond.instanceMethod ({ cls := "ScaleInspection", name := "bestLeft", desc := "(I)I" } : Jvm.MethodName)) ∈ lw_all := lw_g (lw_at lw_m6 144 rfl) rfl
theorem q1430 : (Jvm.Cond.selects "ScaleInspection" ({ cls := "ScaleInspection", name := "bestLeft", desc := "(I)I" } : Jvm.MethodName) ({ cls := "ScaleInspection", name := "bestLeft", desc := "(I)I" } : Jvm.MethodName)) ∈ lw_all := lw_g (lw_at lw_m6 145 rfl) rfl
theorem q1431 : (Jvm.Cond.code ({ cls := "ScaleInspection", name := "bestLeft", desc := "(I)I" } : Jvm.MethodName) prog_1_method_75_code (2 : Nat) (Option.some Jvm.ClassFile.FieldType.int)) ∈ lw_all := lw_g (lw_at lw_m6 146 rfl) rfl
theorem q1432 : (Jvm.Cond.classLink "ScaleInspection" (355 : Nat) "ScaleInspection$BestWeighing") ∈ lw_all := lw_g (lw_at lw_m6 147 rfl) rfl
theorem q1434 : (Jvm.Cond.methodLink "ScaleInspection" (357 : Nat) ({ cls := "ScaleInspection$BestWeighing", name := "<init>", desc := "(LScaleInspection;ILScaleInspection$Hypotheses;)V" } : Jvm.MethodName)) ∈ lw_all := lw_g (lw_at lw_m6 149 rfl) rfl
theorem q1459 : (Jvm.Cond.static ({ cls := "ScaleInspection", name := "lowest", desc := "(II)I" } : Jvm.MethodName)) ∈ lw_all := lw_g (lw_at lw_m6 174 rfl) rfl
theorem q1460 : (Jvm.Cond.code ({ cls := "ScaleInspection", name := "lowest", desc := "(II)I" } : Jvm.MethodName) prog_1_method_74_code (5 : Nat) (Option.some Jvm.ClassFile.FieldType.int)) ∈ lw_all := lw_g (lw_at lw_m6 175 rfl) rfl
theorem q1474 : (Jvm.Cond.fieldLinkNest "ScaleInspection" (360 : Nat) "ScaleInspection$BestWeighing" "left" "I" "ScaleInspection") ∈ lw_tbl := lw_at lw_m6 189 rfl
theorem q1476 : (Jvm.Cond.fieldLinkNest "ScaleInspection" (363 : Nat) "ScaleInspection$BestWeighing" "right" "I" "ScaleInspection") ∈ lw_tbl := lw_at lw_m6 191 rfl
theorem q1500 : (Jvm.Cond.instanceMethod ({ cls := "ScaleInspection", name := "bestRight", desc := "(I)I" } : Jvm.MethodName)) ∈ lw_all := lw_g (lw_at lw_m6 215 rfl) rfl
theorem q1501 : (Jvm.Cond.selects "ScaleInspection" ({ cls := "ScaleInspection", name := "bestRight", desc := "(I)I" } : Jvm.MethodName) ({ cls := "ScaleInspection", name := "bestRight", desc := "(I)I" } : Jvm.MethodName)) ∈ lw_all := lw_g (lw_at lw_m6 216 rfl) rfl
theorem q1502 : (Jvm.Cond.code ({ cls := "ScaleInspection", name := "bestRight", desc := "(I)I" } : Jvm.MethodName) prog_1_method_76_code (2 : Nat) (Option.some Jvm.ClassFile.FieldType.int)) ∈ lw_all := lw_g (lw_at lw_m6 217 rfl) rfl
theorem q1504 : (Jvm.Cond.instanceMethod ({ cls := "ScaleInspection", name := "undo", desc := "()Z" } : Jvm.MethodName)) ∈ lw_all := lw_g (lw_at lw_m6 219 rfl) rfl
theorem q1505 : (Jvm.Cond.selects "ScaleInspection" ({ cls := "ScaleInspection", name := "undo", desc := "()Z" } : Jvm.MethodName) ({ cls := "ScaleInspection", name := "undo", desc := "()Z" } : Jvm.MethodName)) ∈ lw_all := lw_g (lw_at lw_m6 220 rfl) rfl
theorem q1506 : (Jvm.Cond.code ({ cls := "ScaleInspection", name := "undo", desc := "()Z" } : Jvm.MethodName) prog_1_method_77_code (1 : Nat) (Option.some Jvm.ClassFile.FieldType.boolean)) ∈ lw_all := lw_g (lw_at lw_m6 221 rfl) rfl
theorem q1507 : (Jvm.Cond.methodLink "ScaleInspection" (366 : Nat) ({ cls := "java/util/ArrayList", name := "isEmpty", desc := "()Z" } : Jvm.MethodName)) ∈ lw_all := lw_g (lw_at lw_m6 222 rfl) rfl
theorem q1512 : (Jvm.Cond.instanceMethod ({ cls := "ScaleInspection", name := "undoDepth", desc := "()I" } : Jvm.MethodName)) ∈ lw_all := lw_g (lw_at lw_m6 227 rfl) rfl
theorem q1513 : (Jvm.Cond.selects "ScaleInspection" ({ cls := "ScaleInspection", name := "undoDepth", desc := "()I" } : Jvm.MethodName) ({ cls := "ScaleInspection", name := "undoDepth", desc := "()I" } : Jvm.MethodName)) ∈ lw_all := lw_g (lw_at lw_m6 228 rfl) rfl
theorem q1514 : (Jvm.Cond.code ({ cls := "ScaleInspection", name := "undoDepth", desc := "()I" } : Jvm.MethodName) prog_1_method_78_code (1 : Nat) (Option.some Jvm.ClassFile.FieldType.int)) ∈ lw_all := lw_g (lw_at lw_m6 229 rfl) rfl
theorem q1516 : (Jvm.Cond.instanceMethod ({ cls := "ScaleInspection", name := "saveSnapshot", desc := "(I)Z" } : Jvm.MethodName)) ∈ lw_all := lw_g (lw_at lw_m6 231 rfl) rfl
theorem q1517 : (Jvm.Cond.selects "ScaleInspection" ({ cls := "ScaleInspection", name := "saveSnapshot", desc := "(I)Z" } : Jvm.MethodName) ({ cls := "ScaleInspection", name := "saveSnapshot", desc := "(I)Z" } : Jvm.MethodName)) ∈ lw_all := lw_g (lw_at lw_m6 232 rfl) rfl
theorem q1518 : (Jvm.Cond.code ({ cls := "ScaleInspection", name := "saveSnapshot", desc := "(I)Z" } : Jvm.MethodName) prog_1_method_79_code (2 : Nat) (Option.some Jvm.ClassFile.FieldType.boolean)) ∈ lw_all := lw_g (lw_at lw_m6 233 rfl) rfl
theorem q1520 : (Jvm.Cond.instanceMethod ({ cls := "ScaleInspection", name := "restoreSnapshot", desc := "(I)Z" } : Jvm.MethodName)) ∈ lw_all := lw_g (lw_at lw_m6 235 rfl) rfl
theorem q1521 : (Jvm.Cond.selects "ScaleInspection" ({ cls := "ScaleInspection", name := "restoreSnapshot", desc := "(I)Z" } : Jvm.MethodName) ({ cls := "ScaleInspection", name := "restoreSnapshot", desc := "(I)Z" } : Jvm.MethodName)) ∈ lw_all := lw_g (lw_at lw_m6 236 rfl) rfl
theorem q1522 : (Jvm.Cond.code ({ cls := "ScaleInspection", name := "restoreSnapshot", desc := "(I)Z" } : Jvm.MethodName) prog_1_method_80_code (2 : Nat) (Option.some Jvm.ClassFile.FieldType.boolean)) ∈ lw_all := lw_g (lw_at lw_m6 237 rfl) rfl
theorem q1547 : (Jvm.Cond.instanceMethod ({ cls := "ScaleInspection", name := "baseTolerance", desc := "(II)I" } : Jvm.MethodName)) ∈ lw_all := lw_g (lw_at lw_m7 22 rfl) rfl
theorem q1548 : (Jvm.Cond.selects "ScaleInspection" ({ cls := "ScaleInspection", name := "baseTolerance", desc := "(II)I" } : Jvm.MethodName) ({ cls := "ScaleInspection", name := "baseTolerance", desc := "(II)I" } : Jvm.MethodName)) ∈ lw_all := lw_g (lw_at lw_m7 23 rfl) rfl
theorem q1549 : (Jvm.Cond.code ({ cls := "ScaleInspection", name := "baseTolerance", desc := "(II)I" } : Jvm.MethodName) prog_1_method_17_code (3 : Nat) (Option.some Jvm.ClassFile.FieldType.int)) ∈ lw_all := lw_g (lw_at lw_m7 24 rfl) rfl
theorem q1550 : (Jvm.Cond.classLink "ScaleInspection" (137 : Nat) "java/lang/IndexOutOfBoundsException") ∈ lw_all := lw_g (lw_at lw_m7 25 rfl) rfl
theorem q1559 : (Jvm.Cond.methodLink "ScaleInspection" (139 : Nat) ({ cls := "java/lang/IndexOutOfBoundsException", name := "<init>", desc := "()V" } : Jvm.MethodName)) ∈ lw_all := lw_g (lw_at lw_m7 34 rfl) rfl
theorem q1571 : (Jvm.Cond.classLink "ScaleInspection" (140 : Nat) "java/lang/IllegalArgumentException") ∈ lw_all := lw_g (lw_at lw_m7 46 rfl) rfl
theorem q1572 : (Jvm.Cond.methodLink "ScaleInspection" (142 : Nat) ({ cls := "java/lang/IllegalArgumentException", name := "<init>", desc := "()V" } : Jvm.MethodName)) ∈ lw_all := lw_g (lw_at lw_m7 47 rfl) rfl
theorem q1580 : (Jvm.Cond.instanceMethod ({ cls := "ScaleInspection", name := "testLoad", desc := "(II)I" } : Jvm.MethodName)) ∈ lw_all := lw_g (lw_at lw_m7 55 rfl) rfl
theorem q1581 : (Jvm.Cond.selects "ScaleInspection" ({ cls := "ScaleInspection", name := "testLoad", desc := "(II)I" } : Jvm.MethodName) ({ cls := "ScaleInspection", name := "testLoad", desc := "(II)I" } : Jvm.MethodName)) ∈ lw_all := lw_g (lw_at lw_m7 56 rfl) rfl
theorem q1582 : (Jvm.Cond.code ({ cls := "ScaleInspection", name := "testLoad", desc := "(II)I" } : Jvm.MethodName) prog_1_method_34_code (3 : Nat) (Option.some Jvm.ClassFile.FieldType.int)) ∈ lw_all := lw_g (lw_at lw_m7 57 rfl) rfl
theorem q1583 : (Jvm.Cond.methodLink "ScaleInspection" (234 : Nat) ({ cls := "ScaleInspection", name := "visitWith", desc := "(II)LScaleInspection$Visit;" } : Jvm.MethodName)) ∈ lw_all := lw_g (lw_at lw_m7 58 rfl) rfl
theorem q1584 : (Jvm.Cond.privateMethod ({ cls := "ScaleInspection", name := "visitWith", desc := "(II)LScaleInspection$Visit;" } : Jvm.MethodName)) ∈ lw_tbl := lw_at lw_m7 59 rfl
theorem q1585 : (Jvm.Cond.instanceMethod ({ cls := "ScaleInspection", name := "visitWith", desc := "(II)LScaleInspection$Visit;" } : Jvm.MethodName)) ∈ lw_all := lw_g (lw_at lw_m7 60 rfl) rfl
theorem q1586 : (Jvm.Cond.code ({ cls := "ScaleInspection", name := "visitWith", desc := "(II)LScaleInspection$Visit;" } : Jvm.MethodName) prog_1_method_33_code (3 : Nat) (Option.some (Jvm.ClassFile.FieldType.object "ScaleInspection$Visit"))) ∈ lw_all := lw_g (lw_at lw_m7 61 rfl) rfl
theorem q1591 : (Jvm.Cond.instanceMethod ({ cls := "ScaleInspection", name := "testError", desc := "(II)I" } : Jvm.MethodName)) ∈ lw_all := lw_g (lw_at lw_m7 66 rfl) rfl
theorem q1592 : (Jvm.Cond.selects "ScaleInspection" ({ cls := "ScaleInspection", name := "testError", desc := "(II)I" } : Jvm.MethodName) ({ cls := "ScaleInspection", name := "testError", desc := "(II)I" } : Jvm.MethodName)) ∈ lw_all := lw_g (lw_at lw_m7 67 rfl) rfl
theorem q1593 : (Jvm.Cond.code ({ cls := "ScaleInspection", name := "testError", desc := "(II)I" } : Jvm.MethodName) prog_1_method_35_code (3 : Nat) (Option.some Jvm.ClassFile.FieldType.int)) ∈ lw_all := lw_g (lw_at lw_m7 68 rfl) rfl
theorem q1598 : (Jvm.Cond.instanceMethod ({ cls := "ScaleInspection", name := "testPasses", desc := "(II)Z" } : Jvm.MethodName)) ∈ lw_all := lw_g (lw_at lw_m7 73 rfl) rfl
theorem q1599 : (Jvm.Cond.selects "ScaleInspection" ({ cls := "ScaleInspection", name := "testPasses", desc := "(II)Z" } : Jvm.MethodName) ({ cls := "ScaleInspection", name := "testPasses", desc := "(II)Z" } : Jvm.MethodName)) ∈ lw_all := lw_g (lw_at lw_m7 74 rfl) rfl
theorem q1600 : (Jvm.Cond.code ({ cls := "ScaleInspection", name := "testPasses", desc := "(II)Z" } : Jvm.MethodName) prog_1_method_38_code (3 : Nat) (Option.some Jvm.ClassFile.FieldType.boolean)) ∈ lw_all := lw_g (lw_at lw_m7 75 rfl) rfl
theorem q1606 : (Jvm.Cond.instanceMethod ({ cls := "ScaleInspection", name := "adjustment", desc := "(I)I" } : Jvm.MethodName)) ∈ lw_all := lw_g (lw_at lw_m7 81 rfl) rfl
theorem q1607 : (Jvm.Cond.selects "ScaleInspection" ({ cls := "ScaleInspection", name := "adjustment", desc := "(I)I" } : Jvm.MethodName) ({ cls := "ScaleInspection", name := "adjustment", desc := "(I)I" } : Jvm.MethodName)) ∈ lw_all := lw_g (lw_at lw_m7 82 rfl) rfl
theorem q1608 : (Jvm.Cond.code ({ cls := "ScaleInspection", name := "adjustment", desc := "(I)I" } : Jvm.MethodName) prog_1_method_46_code (2 : Nat) (Option.some Jvm.ClassFile.FieldType.int)) ∈ lw_all := lw_g (lw_at lw_m7 83 rfl) rfl
theorem q1609 : (Jvm.Cond.classLink "ScaleInspection" (270 : Nat) "java/lang/IllegalStateException") ∈ lw_all := lw_g (lw_at lw_m7 84 rfl) rfl
theorem q1618 : (Jvm.Cond.methodLink "ScaleInspection" (272 : Nat) ({ cls := "java/lang/IllegalStateException", name := "<init>", desc := "()V" } : Jvm.MethodName)) ∈ lw_all := lw_g (lw_at lw_m7 93 rfl) rfl
theorem q2205 : (Jvm.Cond.castable "ScaleInspection" "java/lang/Object") ∈ lw_tbl := lw_at lw_m9 200 rfl


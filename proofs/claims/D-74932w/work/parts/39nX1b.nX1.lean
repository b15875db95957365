set_option maxRecDepth 100000
abbrev cX1_passes : ByteArray := prog_1_method_37_code
def yX1_passes : MethodName := ⟨RX1, "passes", "(LScaleInspection$Visit;II)Z"⟩
def dkwX1_passes_1 : List UInt8 := [3, 172]
abbrev dktX1_passes_1 : List UInt8 := dkwX1_passes_1 ++ []
def dkwX1_passes_0 : List UInt8 := [43, 180, 0, 231, 28, 46, 29, 100, 184, 0, 238, 42, 43, 28, 182, 0, 241, 163, 0, 7, 4, 167, 0, 4]
abbrev dktX1_passes_0 : List UInt8 := dkwX1_passes_0 ++ dktX1_passes_1
theorem dksX1_passes_0 : cX1_passes.data.toList.drop 0 = dktX1_passes_0 := by decide +kernel
theorem dksX1_passes_1 : cX1_passes.data.toList.drop 24 = dktX1_passes_1 := dk_seg dksX1_passes_0 24 rfl rfl
theorem dX1_passes_0 : decode cX1_passes 0 = .ok (.aload_n 1, 1) := dk_43 (dk_at dksX1_passes_0 0 rfl rfl)
theorem dX1_passes_1 : decode cX1_passes 1 = .ok (.getfield 231, 3) := dk_180 0 231 (dk_at dksX1_passes_0 1 rfl rfl)
theorem dX1_passes_4 : decode cX1_passes 4 = .ok (.iload_n 2, 1) := dk_28 (dk_at dksX1_passes_0 4 rfl rfl)
theorem dX1_passes_5 : decode cX1_passes 5 = .ok (.iaload, 1) := dk_46 (dk_at dksX1_passes_0 5 rfl rfl)
theorem dX1_passes_6 : decode cX1_passes 6 = .ok (.iload_n 3, 1) := dk_29 (dk_at dksX1_passes_0 6 rfl rfl)
theorem dX1_passes_7 : decode cX1_passes 7 = .ok (.isub, 1) := dk_100 (dk_at dksX1_passes_0 7 rfl rfl)
theorem dX1_passes_8 : decode cX1_passes 8 = .ok (.invokestatic 238, 3) := dk_184 0 238 (dk_at dksX1_passes_0 8 rfl rfl)
theorem dX1_passes_11 : decode cX1_passes 11 = .ok (.aload_n 0, 1) := dk_42 (dk_at dksX1_passes_0 11 rfl rfl)
theorem dX1_passes_12 : decode cX1_passes 12 = .ok (.aload_n 1, 1) := dk_43 (dk_at dksX1_passes_0 12 rfl rfl)
theorem dX1_passes_13 : decode cX1_passes 13 = .ok (.iload_n 2, 1) := dk_28 (dk_at dksX1_passes_0 13 rfl rfl)
theorem dX1_passes_14 : decode cX1_passes 14 = .ok (.invokevirtual 241, 3) := dk_182 0 241 (dk_at dksX1_passes_0 14 rfl rfl)
theorem dX1_passes_17 : decode cX1_passes 17 = .ok (.if_icmp .gt 7, 3) := dk_163 0 7 (dk_at dksX1_passes_0 17 rfl rfl)
theorem dX1_passes_20 : decode cX1_passes 20 = .ok (.iconst 1, 1) := dk_4 (dk_at dksX1_passes_0 20 rfl rfl)
theorem dX1_passes_21 : decode cX1_passes 21 = .ok (.goto 4, 3) := dk_167 0 4 (dk_at dksX1_passes_0 21 rfl rfl)
theorem dX1_passes_24 : decode cX1_passes 24 = .ok (.iconst 0, 1) := dk_3 (dk_at dksX1_passes_1 0 rfl rfl)
theorem dX1_passes_25 : decode cX1_passes 25 = .ok (.ireturn, 1) := dk_172 (dk_at dksX1_passes_1 1 rfl rfl)
abbrev cX1_tolerance : ByteArray := prog_1_method_36_code
def yX1_tolerance : MethodName := ⟨RX1, "tolerance", "(LScaleInspection$Visit;I)I"⟩
def dkwX1_tolerance_1 : List UInt8 := [182, 0, 143, 104, 172]
abbrev dktX1_tolerance_1 : List UInt8 := dkwX1_tolerance_1 ++ []
def dkwX1_tolerance_0 : List UInt8 := [43, 180, 0, 216, 42, 43, 182, 0, 219, 42, 180, 0, 20, 43, 180, 0, 230, 28, 46, 182, 0, 151]
abbrev dktX1_tolerance_0 : List UInt8 := dkwX1_tolerance_0 ++ dktX1_tolerance_1
theorem dksX1_tolerance_0 : cX1_tolerance.data.toList.drop 0 = dktX1_tolerance_0 := by decide +kernel
theorem dksX1_tolerance_1 : cX1_tolerance.data.toList.drop 22 = dktX1_tolerance_1 := dk_seg dksX1_tolerance_0 22 rfl rfl
theorem dX1_tolerance_0 : decode cX1_tolerance 0 = .ok (.aload_n 1, 1) := dk_43 (dk_at dksX1_tolerance_0 0 rfl rfl)
theorem dX1_tolerance_1 : decode cX1_tolerance 1 = .ok (.getfield 216, 3) := dk_180 0 216 (dk_at dksX1_tolerance_0 1 rfl rfl)
theorem dX1_tolerance_4 : decode cX1_tolerance 4 = .ok (.aload_n 0, 1) := dk_42 (dk_at dksX1_tolerance_0 4 rfl rfl)
theorem dX1_tolerance_5 : decode cX1_tolerance 5 = .ok (.aload_n 1, 1) := dk_43 (dk_at dksX1_tolerance_0 5 rfl rfl)
theorem dX1_tolerance_6 : decode cX1_tolerance 6 = .ok (.invokevirtual 219, 3) := dk_182 0 219 (dk_at dksX1_tolerance_0 6 rfl rfl)
theorem dX1_tolerance_9 : decode cX1_tolerance 9 = .ok (.aload_n 0, 1) := dk_42 (dk_at dksX1_tolerance_0 9 rfl rfl)
theorem dX1_tolerance_10 : decode cX1_tolerance 10 = .ok (.getfield 20, 3) := dk_180 0 20 (dk_at dksX1_tolerance_0 10 rfl rfl)
theorem dX1_tolerance_13 : decode cX1_tolerance 13 = .ok (.aload_n 1, 1) := dk_43 (dk_at dksX1_tolerance_0 13 rfl rfl)
theorem dX1_tolerance_14 : decode cX1_tolerance 14 = .ok (.getfield 230, 3) := dk_180 0 230 (dk_at dksX1_tolerance_0 14 rfl rfl)
theorem dX1_tolerance_17 : decode cX1_tolerance 17 = .ok (.iload_n 2, 1) := dk_28 (dk_at dksX1_tolerance_0 17 rfl rfl)
theorem dX1_tolerance_18 : decode cX1_tolerance 18 = .ok (.iaload, 1) := dk_46 (dk_at dksX1_tolerance_0 18 rfl rfl)
theorem dX1_tolerance_19 : decode cX1_tolerance 19 = .ok (.invokevirtual 151, 3) := dk_182 0 151 (dk_at dksX1_tolerance_0 19 rfl rfl)
theorem dX1_tolerance_22 : decode cX1_tolerance 22 = .ok (.invokevirtual 143, 3) := dk_182 0 143 (dk_at dksX1_tolerance_1 0 rfl rfl)
theorem dX1_tolerance_25 : decode cX1_tolerance 25 = .ok (.imul, 1) := dk_104 (dk_at dksX1_tolerance_1 3 rfl rfl)
theorem dX1_tolerance_26 : decode cX1_tolerance 26 = .ok (.ireturn, 1) := dk_172 (dk_at dksX1_tolerance_1 4 rfl rfl)
abbrev cX1_isSteady : ByteArray := prog_1_method_42_code
def yX1_isSteady : MethodName := ⟨RX1, "isSteady", "(LScaleInspection$Visit;)Z"⟩
def dkwX1_isSteady_3 : List UInt8 := [172]
abbrev dktX1_isSteady_3 : List UInt8 := dkwX1_isSteady_3 ++ []
def dkwX1_isSteady_2 : List UInt8 := [42, 43, 28, 182, 0, 241, 164, 0, 5, 3, 172, 132, 3, 1, 167, 255, 206, 132, 2, 1, 167, 255, 190, 4]
abbrev dktX1_isSteady_2 : List UInt8 := dkwX1_isSteady_2 ++ dktX1_isSteady_3
def dkwX1_isSteady_1 : List UInt8 := [180, 0, 230, 28, 46, 160, 0, 30, 43, 180, 0, 231, 29, 46, 43, 180, 0, 231, 28, 46, 100, 184, 0, 238]
abbrev dktX1_isSteady_1 : List UInt8 := dkwX1_isSteady_1 ++ dktX1_isSteady_2
def dkwX1_isSteady_0 : List UInt8 := [3, 61, 28, 43, 180, 0, 227, 162, 0, 64, 3, 62, 29, 28, 162, 0, 51, 43, 180, 0, 230, 29, 46, 43]
abbrev dktX1_isSteady_0 : List UInt8 := dkwX1_isSteady_0 ++ dktX1_isSteady_1
theorem dksX1_isSteady_0 : cX1_isSteady.data.toList.drop 0 = dktX1_isSteady_0 := by decide +kernel
theorem dksX1_isSteady_1 : cX1_isSteady.data.toList.drop 24 = dktX1_isSteady_1 := dk_seg dksX1_isSteady_0 24 rfl rfl
theorem dksX1_isSteady_2 : cX1_isSteady.data.toList.drop 48 = dktX1_isSteady_2 := dk_seg dksX1_isSteady_1 24 rfl rfl
theorem dksX1_isSteady_3 : cX1_isSteady.data.toList.drop 72 = dktX1_isSteady_3 := dk_seg dksX1_isSteady_2 24 rfl rfl
theorem dX1_isSteady_0 : decode cX1_isSteady 0 = .ok (.iconst 0, 1) := dk_3 (dk_at dksX1_isSteady_0 0 rfl rfl)
theorem dX1_isSteady_1 : decode cX1_isSteady 1 = .ok (.istore_n 2, 1) := dk_61 (dk_at dksX1_isSteady_0 1 rfl rfl)
theorem dX1_isSteady_2 : decode cX1_isSteady 2 = .ok (.iload_n 2, 1) := dk_28 (dk_at dksX1_isSteady_0 2 rfl rfl)
theorem dX1_isSteady_3 : decode cX1_isSteady 3 = .ok (.aload_n 1, 1) := dk_43 (dk_at dksX1_isSteady_0 3 rfl rfl)
theorem dX1_isSteady_4 : decode cX1_isSteady 4 = .ok (.getfield 227, 3) := dk_180 0 227 (dk_at dksX1_isSteady_0 4 rfl rfl)
theorem dX1_isSteady_7 : decode cX1_isSteady 7 = .ok (.if_icmp .ge 64, 3) := dk_162 0 64 (dk_at dksX1_isSteady_0 7 rfl rfl)
theorem dX1_isSteady_10 : decode cX1_isSteady 10 = .ok (.iconst 0, 1) := dk_3 (dk_at dksX1_isSteady_0 10 rfl rfl)
theorem dX1_isSteady_11 : decode cX1_isSteady 11 = .ok (.istore_n 3, 1) := dk_62 (dk_at dksX1_isSteady_0 11 rfl rfl)
theorem dX1_isSteady_12 : decode cX1_isSteady 12 = .ok (.iload_n 3, 1) := dk_29 (dk_at dksX1_isSteady_0 12 rfl rfl)
theorem dX1_isSteady_13 : decode cX1_isSteady 13 = .ok (.iload_n 2, 1) := dk_28 (dk_at dksX1_isSteady_0 13 rfl rfl)
theorem dX1_isSteady_14 : decode cX1_isSteady 14 = .ok (.if_icmp .ge 51, 3) := dk_162 0 51 (dk_at dksX1_isSteady_0 14 rfl rfl)
theorem dX1_isSteady_17 : decode cX1_isSteady 17 = .ok (.aload_n 1, 1) := dk_43 (dk_at dksX1_isSteady_0 17 rfl rfl)
theorem dX1_isSteady_18 : decode cX1_isSteady 18 = .ok (.getfield 230, 3) := dk_180 0 230 (dk_at dksX1_isSteady_0 18 rfl rfl)
theorem dX1_isSteady_21 : decode cX1_isSteady 21 = .ok (.iload_n 3, 1) := dk_29 (dk_at dksX1_isSteady_0 21 rfl rfl)
theorem dX1_isSteady_22 : decode cX1_isSteady 22 = .ok (.iaload, 1) := dk_46 (dk_at dksX1_isSteady_0 22 rfl rfl)
theorem dX1_isSteady_23 : decode cX1_isSteady 23 = .ok (.aload_n 1, 1) := dk_43 (dk_at dksX1_isSteady_0 23 rfl rfl)
theorem dX1_isSteady_24 : decode cX1_isSteady 24 = .ok (.getfield 230, 3) := dk_180 0 230 (dk_at dksX1_isSteady_1 0 rfl rfl)
theorem dX1_isSteady_27 : decode cX1_isSteady 27 = .ok (.iload_n 2, 1) := dk_28 (dk_at dksX1_isSteady_1 3 rfl rfl)
theorem dX1_isSteady_28 : decode cX1_isSteady 28 = .ok (.iaload, 1) := dk_46 (dk_at dksX1_isSteady_1 4 rfl rfl)
theorem dX1_isSteady_29 : decode cX1_isSteady 29 = .ok (.if_icmp .ne 30, 3) := dk_160 0 30 (dk_at dksX1_isSteady_1 5 rfl rfl)
theorem dX1_isSteady_32 : decode cX1_isSteady 32 = .ok (.aload_n 1, 1) := dk_43 (dk_at dksX1_isSteady_1 8 rfl rfl)
theorem dX1_isSteady_33 : decode cX1_isSteady 33 = .ok (.getfield 231, 3) := dk_180 0 231 (dk_at dksX1_isSteady_1 9 rfl rfl)
theorem dX1_isSteady_36 : decode cX1_isSteady 36 = .ok (.iload_n 3, 1) := dk_29 (dk_at dksX1_isSteady_1 12 rfl rfl)
theorem dX1_isSteady_37 : decode cX1_isSteady 37 = .ok (.iaload, 1) := dk_46 (dk_at dksX1_isSteady_1 13 rfl rfl)
theorem dX1_isSteady_38 : decode cX1_isSteady 38 = .ok (.aload_n 1, 1) := dk_43 (dk_at dksX1_isSteady_1 14 rfl rfl)
theorem dX1_isSteady_39 : decode cX1_isSteady 39 = .ok (.getfield 231, 3) := dk_180 0 231 (dk_at dksX1_isSteady_1 15 rfl rfl)
theorem dX1_isSteady_42 : decode cX1_isSteady 42 = .ok (.iload_n 2, 1) := dk_28 (dk_at dksX1_isSteady_1 18 rfl rfl)
theorem dX1_isSteady_43 : decode cX1_isSteady 43 = .ok (.iaload, 1) := dk_46 (dk_at dksX1_isSteady_1 19 rfl rfl)
theorem dX1_isSteady_44 : decode cX1_isSteady 44 = .ok (.isub, 1) := dk_100 (dk_at dksX1_isSteady_1 20 rfl rfl)
theorem dX1_isSteady_45 : decode cX1_isSteady 45 = .ok (.invokestatic 238, 3) := dk_184 0 238 (dk_at dksX1_isSteady_1 21 rfl rfl)
theorem dX1_isSteady_48 : decode cX1_isSteady 48 = .ok (.aload_n 0, 1) := dk_42 (dk_at dksX1_isSteady_2 0 rfl rfl)
theorem dX1_isSteady_49 : decode cX1_isSteady 49 = .ok (.aload_n 1, 1) := dk_43 (dk_at dksX1_isSteady_2 1 rfl rfl)
theorem dX1_isSteady_50 : decode cX1_isSteady 50 = .ok (.iload_n 2, 1) := dk_28 (dk_at dksX1_isSteady_2 2 rfl rfl)
theorem dX1_isSteady_51 : decode cX1_isSteady 51 = .ok (.invokevirtual 241, 3) := dk_182 0 241 (dk_at dksX1_isSteady_2 3 rfl rfl)
theorem dX1_isSteady_54 : decode cX1_isSteady 54 = .ok (.if_icmp .le 5, 3) := dk_164 0 5 (dk_at dksX1_isSteady_2 6 rfl rfl)
theorem dX1_isSteady_57 : decode cX1_isSteady 57 = .ok (.iconst 0, 1) := dk_3 (dk_at dksX1_isSteady_2 9 rfl rfl)
theorem dX1_isSteady_58 : decode cX1_isSteady 58 = .ok (.ireturn, 1) := dk_172 (dk_at dksX1_isSteady_2 10 rfl rfl)
theorem dX1_isSteady_59 : decode cX1_isSteady 59 = .ok (.iinc 3 1, 3) := dk_132 3 1 (dk_at dksX1_isSteady_2 11 rfl rfl)
theorem dX1_isSteady_62 : decode cX1_isSteady 62 = .ok (.goto (-50), 3) := dk_167 255 206 (dk_at dksX1_isSteady_2 14 rfl rfl)
theorem dX1_isSteady_65 : decode cX1_isSteady 65 = .ok (.iinc 2 1, 3) := dk_132 2 1 (dk_at dksX1_isSteady_2 17 rfl rfl)
theorem dX1_isSteady_68 : decode cX1_isSteady 68 = .ok (.goto (-66), 3) := dk_167 255 190 (dk_at dksX1_isSteady_2 20 rfl rfl)
theorem dX1_isSteady_71 : decode cX1_isSteady 71 = .ok (.iconst 1, 1) := dk_4 (dk_at dksX1_isSteady_2 23 rfl rfl)
theorem dX1_isSteady_72 : decode cX1_isSteady 72 = .ok (.ireturn, 1) := dk_172 (dk_at dksX1_isSteady_3 0 rfl rfl)
abbrev cX1_adjustedVerdict : ByteArray := prog_1_method_47_code
def yX1_adjustedVerdict : MethodName := ⟨RX1, "adjustedVerdict", "(I)I"⟩
def dkwX1_adjustedVerdict_2 : List UInt8 := [172]
abbrev dktX1_adjustedVerdict_2 : List UInt8 := dkwX1_adjustedVerdict_2 ++ []
def dkwX1_adjustedVerdict_1 : List UInt8 := [42, 180, 0, 27, 180, 0, 179, 27, 182, 0, 85, 192, 0, 183, 182, 1, 17, 182, 1, 5, 167, 0, 4, 2]
abbrev dktX1_adjustedVerdict_1 : List UInt8 := dkwX1_adjustedVerdict_1 ++ dktX1_adjustedVerdict_2
def dkwX1_adjustedVerdict_0 : List UInt8 := [42, 27, 182, 0, 213, 153, 0, 42, 42, 42, 180, 0, 27, 180, 0, 179, 27, 182, 0, 85, 192, 0, 183, 42]
abbrev dktX1_adjustedVerdict_0 : List UInt8 := dkwX1_adjustedVerdict_0 ++ dktX1_adjustedVerdict_1
theorem dksX1_adjustedVerdict_0 : cX1_adjustedVerdict.data.toList.drop 0 = dktX1_adjustedVerdict_0 := by decide +kernel
theorem dksX1_adjustedVerdict_1 : cX1_adjustedVerdict.data.toList.drop 24 = dktX1_adjustedVerdict_1 := dk_seg dksX1_adjustedVerdict_0 24 rfl rfl
theorem dksX1_adjustedVerdict_2 : cX1_adjustedVerdict.data.toList.drop 48 = dktX1_adjustedVerdict_2 := dk_seg dksX1_adjustedVerdict_1 24 rfl rfl
theorem dX1_adjustedVerdict_0 : decode cX1_adjustedVerdict 0 = .ok (.aload_n 0, 1) := dk_42 (dk_at dksX1_adjustedVerdict_0 0 rfl rfl)
theorem dX1_adjustedVerdict_1 : decode cX1_adjustedVerdict 1 = .ok (.iload_n 1, 1) := dk_27 (dk_at dksX1_adjustedVerdict_0 1 rfl rfl)
theorem dX1_adjustedVerdict_2 : decode cX1_adjustedVerdict 2 = .ok (.invokevirtual 213, 3) := dk_182 0 213 (dk_at dksX1_adjustedVerdict_0 2 rfl rfl)
theorem dX1_adjustedVerdict_5 : decode cX1_adjustedVerdict 5 = .ok (.ifCond .eq 42, 3) := dk_153 0 42 (dk_at dksX1_adjustedVerdict_0 5 rfl rfl)
theorem dX1_adjustedVerdict_8 : decode cX1_adjustedVerdict 8 = .ok (.aload_n 0, 1) := dk_42 (dk_at dksX1_adjustedVerdict_0 8 rfl rfl)
theorem dX1_adjustedVerdict_9 : decode cX1_adjustedVerdict 9 = .ok (.aload_n 0, 1) := dk_42 (dk_at dksX1_adjustedVerdict_0 9 rfl rfl)
theorem dX1_adjustedVerdict_10 : decode cX1_adjustedVerdict 10 = .ok (.getfield 27, 3) := dk_180 0 27 (dk_at dksX1_adjustedVerdict_0 10 rfl rfl)
theorem dX1_adjustedVerdict_13 : decode cX1_adjustedVerdict 13 = .ok (.getfield 179, 3) := dk_180 0 179 (dk_at dksX1_adjustedVerdict_0 13 rfl rfl)
theorem dX1_adjustedVerdict_16 : decode cX1_adjustedVerdict 16 = .ok (.iload_n 1, 1) := dk_27 (dk_at dksX1_adjustedVerdict_0 16 rfl rfl)
theorem dX1_adjustedVerdict_17 : decode cX1_adjustedVerdict 17 = .ok (.invokevirtual 85, 3) := dk_182 0 85 (dk_at dksX1_adjustedVerdict_0 17 rfl rfl)
theorem dX1_adjustedVerdict_20 : decode cX1_adjustedVerdict 20 = .ok (.checkcast 183, 3) := dk_192 0 183 (dk_at dksX1_adjustedVerdict_0 20 rfl rfl)
theorem dX1_adjustedVerdict_23 : decode cX1_adjustedVerdict 23 = .ok (.aload_n 0, 1) := dk_42 (dk_at dksX1_adjustedVerdict_0 23 rfl rfl)
theorem dX1_adjustedVerdict_24 : decode cX1_adjustedVerdict 24 = .ok (.aload_n 0, 1) := dk_42 (dk_at dksX1_adjustedVerdict_1 0 rfl rfl)
theorem dX1_adjustedVerdict_25 : decode cX1_adjustedVerdict 25 = .ok (.getfield 27, 3) := dk_180 0 27 (dk_at dksX1_adjustedVerdict_1 1 rfl rfl)
theorem dX1_adjustedVerdict_28 : decode cX1_adjustedVerdict 28 = .ok (.getfield 179, 3) := dk_180 0 179 (dk_at dksX1_adjustedVerdict_1 4 rfl rfl)
theorem dX1_adjustedVerdict_31 : decode cX1_adjustedVerdict 31 = .ok (.iload_n 1, 1) := dk_27 (dk_at dksX1_adjustedVerdict_1 7 rfl rfl)
theorem dX1_adjustedVerdict_32 : decode cX1_adjustedVerdict 32 = .ok (.invokevirtual 85, 3) := dk_182 0 85 (dk_at dksX1_adjustedVerdict_1 8 rfl rfl)
theorem dX1_adjustedVerdict_35 : decode cX1_adjustedVerdict 35 = .ok (.checkcast 183, 3) := dk_192 0 183 (dk_at dksX1_adjustedVerdict_1 11 rfl rfl)
theorem dX1_adjustedVerdict_38 : decode cX1_adjustedVerdict 38 = .ok (.invokevirtual 273, 3) := dk_182 1 17 (dk_at dksX1_adjustedVerdict_1 14 rfl rfl)
theorem dX1_adjustedVerdict_41 : decode cX1_adjustedVerdict 41 = .ok (.invokevirtual 261, 3) := dk_182 1 5 (dk_at dksX1_adjustedVerdict_1 17 rfl rfl)
theorem dX1_adjustedVerdict_44 : decode cX1_adjustedVerdict 44 = .ok (.goto 4, 3) := dk_167 0 4 (dk_at dksX1_adjustedVerdict_1 20 rfl rfl)
theorem dX1_adjustedVerdict_47 : decode cX1_adjustedVerdict 47 = .ok (.iconst (-1), 1) := dk_2 (dk_at dksX1_adjustedVerdict_1 23 rfl rfl)
theorem dX1_adjustedVerdict_48 : decode cX1_adjustedVerdict 48 = .ok (.ireturn, 1) := dk_172 (dk_at dksX1_adjustedVerdict_2 0 rfl rfl)
abbrev cX1_adjustmentOf : ByteArray := prog_1_method_45_code
def yX1_adjustmentOf : MethodName := ⟨RX1, "adjustmentOf", "(LScaleInspection$Visit;)I"⟩
def dkwX1_adjustmentOf_2 : List UInt8 := [184, 1, 8, 62, 132, 4, 1, 167, 255, 220, 28, 29, 96, 5, 184, 1, 11, 172]
abbrev dktX1_adjustmentOf_2 : List UInt8 := dkwX1_adjustmentOf_2 ++ []
def dkwX1_adjustmentOf_1 : List UInt8 := [162, 0, 33, 28, 43, 180, 0, 231, 21, 4, 46, 184, 0, 159, 61, 29, 43, 180, 0, 231, 21, 4, 46]
abbrev dktX1_adjustmentOf_1 : List UInt8 := dkwX1_adjustmentOf_1 ++ dktX1_adjustmentOf_2
def dkwX1_adjustmentOf_0 : List UInt8 := [43, 180, 0, 231, 3, 46, 61, 43, 180, 0, 231, 3, 46, 62, 4, 54, 4, 21, 4, 43, 180, 0, 227]
abbrev dktX1_adjustmentOf_0 : List UInt8 := dkwX1_adjustmentOf_0 ++ dktX1_adjustmentOf_1
theorem dksX1_adjustmentOf_0 : cX1_adjustmentOf.data.toList.drop 0 = dktX1_adjustmentOf_0 := by decide +kernel
theorem dksX1_adjustmentOf_1 : cX1_adjustmentOf.data.toList.drop 23 = dktX1_adjustmentOf_1 := dk_seg dksX1_adjustmentOf_0 23 rfl rfl
theorem dksX1_adjustmentOf_2 : cX1_adjustmentOf.data.toList.drop 46 = dktX1_adjustmentOf_2 := dk_seg dksX1_adjustmentOf_1 23 rfl rfl
theorem dX1_adjustmentOf_0 : decode cX1_adjustmentOf 0 = .ok (.aload_n 1, 1) := dk_43 (dk_at dksX1_adjustmentOf_0 0 rfl rfl)
theorem dX1_adjustmentOf_1 : decode cX1_adjustmentOf 1 = .ok (.getfield 231, 3) := dk_180 0 231 (dk_at dksX1_adjustmentOf_0 1 rfl rfl)
theorem dX1_adjustmentOf_4 : decode cX1_adjustmentOf 4 = .ok (.iconst 0, 1) := dk_3 (dk_at dksX1_adjustmentOf_0 4 rfl rfl)
theorem dX1_adjustmentOf_5 : decode cX1_adjustmentOf 5 = .ok (.iaload, 1) := dk_46 (dk_at dksX1_adjustmentOf_0 5 rfl rfl)
theorem dX1_adjustmentOf_6 : decode cX1_adjustmentOf 6 = .ok (.istore_n 2, 1) := dk_61 (dk_at dksX1_adjustmentOf_0 6 rfl rfl)
theorem dX1_adjustmentOf_7 : decode cX1_adjustmentOf 7 = .ok (.aload_n 1, 1) := dk_43 (dk_at dksX1_adjustmentOf_0 7 rfl rfl)
theorem dX1_adjustmentOf_8 : decode cX1_adjustmentOf 8 = .ok (.getfield 231, 3) := dk_180 0 231 (dk_at dksX1_adjustmentOf_0 8 rfl rfl)
theorem dX1_adjustmentOf_11 : decode cX1_adjustmentOf 11 = .ok (.iconst 0, 1) := dk_3 (dk_at dksX1_adjustmentOf_0 11 rfl rfl)
theorem dX1_adjustmentOf_12 : decode cX1_adjustmentOf 12 = .ok (.iaload, 1) := dk_46 (dk_at dksX1_adjustmentOf_0 12 rfl rfl)
theorem dX1_adjustmentOf_13 : decode cX1_adjustmentOf 13 = .ok (.istore_n 3, 1) := dk_62 (dk_at dksX1_adjustmentOf_0 13 rfl rfl)
theorem dX1_adjustmentOf_14 : decode cX1_adjustmentOf 14 = .ok (.iconst 1, 1) := dk_4 (dk_at dksX1_adjustmentOf_0 14 rfl rfl)
theorem dX1_adjustmentOf_15 : decode cX1_adjustmentOf 15 = .ok (.istore 4, 2) := dk_54 4 (dk_at dksX1_adjustmentOf_0 15 rfl rfl)
theorem dX1_adjustmentOf_17 : decode cX1_adjustmentOf 17 = .ok (.iload 4, 2) := dk_21 4 (dk_at dksX1_adjustmentOf_0 17 rfl rfl)
theorem dX1_adjustmentOf_19 : decode cX1_adjustmentOf 19 = .ok (.aload_n 1, 1) := dk_43 (dk_at dksX1_adjustmentOf_0 19 rfl rfl)
theorem dX1_adjustmentOf_20 : decode cX1_adjustmentOf 20 = .ok (.getfield 227, 3) := dk_180 0 227 (dk_at dksX1_adjustmentOf_0 20 rfl rfl)
theorem dX1_adjustmentOf_23 : decode cX1_adjustmentOf 23 = .ok (.if_icmp .ge 33, 3) := dk_162 0 33 (dk_at dksX1_adjustmentOf_1 0 rfl rfl)
theorem dX1_adjustmentOf_26 : decode cX1_adjustmentOf 26 = .ok (.iload_n 2, 1) := dk_28 (dk_at dksX1_adjustmentOf_1 3 rfl rfl)
theorem dX1_adjustmentOf_27 : decode cX1_adjustmentOf 27 = .ok (.aload_n 1, 1) := dk_43 (dk_at dksX1_adjustmentOf_1 4 rfl rfl)
theorem dX1_adjustmentOf_28 : decode cX1_adjustmentOf 28 = .ok (.getfield 231, 3) := dk_180 0 231 (dk_at dksX1_adjustmentOf_1 5 rfl rfl)
theorem dX1_adjustmentOf_31 : decode cX1_adjustmentOf 31 = .ok (.iload 4, 2) := dk_21 4 (dk_at dksX1_adjustmentOf_1 8 rfl rfl)
theorem dX1_adjustmentOf_33 : decode cX1_adjustmentOf 33 = .ok (.iaload, 1) := dk_46 (dk_at dksX1_adjustmentOf_1 10 rfl rfl)
theorem dX1_adjustmentOf_34 : decode cX1_adjustmentOf 34 = .ok (.invokestatic 159, 3) := dk_184 0 159 (dk_at dksX1_adjustmentOf_1 11 rfl rfl)
theorem dX1_adjustmentOf_37 : decode cX1_adjustmentOf 37 = .ok (.istore_n 2, 1) := dk_61 (dk_at dksX1_adjustmentOf_1 14 rfl rfl)
theorem dX1_adjustmentOf_38 : decode cX1_adjustmentOf 38 = .ok (.iload_n 3, 1) := dk_29 (dk_at dksX1_adjustmentOf_1 15 rfl rfl)
theorem dX1_adjustmentOf_39 : decode cX1_adjustmentOf 39 = .ok (.aload_n 1, 1) := dk_43 (dk_at dksX1_adjustmentOf_1 16 rfl rfl)
theorem dX1_adjustmentOf_40 : decode cX1_adjustmentOf 40 = .ok (.getfield 231, 3) := dk_180 0 231 (dk_at dksX1_adjustmentOf_1 17 rfl rfl)
theorem dX1_adjustmentOf_43 : decode cX1_adjustmentOf 43 = .ok (.iload 4, 2) := dk_21 4 (dk_at dksX1_adjustmentOf_1 20 rfl rfl)
theorem dX1_adjustmentOf_45 : decode cX1_adjustmentOf 45 = .ok (.iaload, 1) := dk_46 (dk_at dksX1_adjustmentOf_1 22 rfl rfl)
theorem dX1_adjustmentOf_46 : decode cX1_adjustmentOf 46 = .ok (.invokestatic 264, 3) := dk_184 1 8 (dk_at dksX1_adjustmentOf_2 0 rfl rfl)
theorem dX1_adjustmentOf_49 : decode cX1_adjustmentOf 49 = .ok (.istore_n 3, 1) := dk_62 (dk_at dksX1_adjustmentOf_2 3 rfl rfl)
theorem dX1_adjustmentOf_50 : decode cX1_adjustmentOf 50 = .ok (.iinc 4 1, 3) := dk_132 4 1 (dk_at dksX1_adjustmentOf_2 4 rfl rfl)
theorem dX1_adjustmentOf_53 : decode cX1_adjustmentOf 53 = .ok (.goto (-36), 3) := dk_167 255 220 (dk_at dksX1_adjustmentOf_2 7 rfl rfl)
theorem dX1_adjustmentOf_56 : decode cX1_adjustmentOf 56 = .ok (.iload_n 2, 1) := dk_28 (dk_at dksX1_adjustmentOf_2 10 rfl rfl)
theorem dX1_adjustmentOf_57 : decode cX1_adjustmentOf 57 = .ok (.iload_n 3, 1) := dk_29 (dk_at dksX1_adjustmentOf_2 11 rfl rfl)
theorem dX1_adjustmentOf_58 : decode cX1_adjustmentOf 58 = .ok (.iadd, 1) := dk_96 (dk_at dksX1_adjustmentOf_2 12 rfl rfl)
theorem dX1_adjustmentOf_59 : decode cX1_adjustmentOf 59 = .ok (.iconst 2, 1) := dk_5 (dk_at dksX1_adjustmentOf_2 13 rfl rfl)
theorem dX1_adjustmentOf_60 : decode cX1_adjustmentOf 60 = .ok (.invokestatic 267, 3) := dk_184 1 11 (dk_at dksX1_adjustmentOf_2 14 rfl rfl)
theorem dX1_adjustmentOf_63 : decode cX1_adjustmentOf 63 = .ok (.ireturn, 1) := dk_172 (dk_at dksX1_adjustmentOf_2 17 rfl rfl)
abbrev cX1_closeVisit : ByteArray := prog_1_method_48_code
def yX1_closeVisit : MethodName := ⟨RX1, "closeVisit", "(I)I"⟩
def dkwX1_closeVisit_2 : List UInt8 := [192, 0, 183, 77, 44, 42, 44, 3, 182, 1, 5, 181, 0, 204, 44, 180, 0, 204, 172]
abbrev dktX1_closeVisit_2 : List UInt8 := dkwX1_closeVisit_2 ++ []
def dkwX1_closeVisit_1 : List UInt8 := [182, 0, 200, 153, 0, 6, 16, 254, 172, 42, 182, 0, 207, 42, 180, 0, 27, 180, 0, 179, 27, 182, 0, 85]
abbrev dktX1_closeVisit_1 : List UInt8 := dkwX1_closeVisit_1 ++ dktX1_closeVisit_2
def dkwX1_closeVisit_0 : List UInt8 := [42, 27, 182, 0, 213, 154, 0, 5, 2, 172, 42, 180, 0, 27, 180, 0, 179, 27, 182, 0, 85, 192, 0, 183]
abbrev dktX1_closeVisit_0 : List UInt8 := dkwX1_closeVisit_0 ++ dktX1_closeVisit_1
theorem dksX1_closeVisit_0 : cX1_closeVisit.data.toList.drop 0 = dktX1_closeVisit_0 := by decide +kernel
theorem dksX1_closeVisit_1 : cX1_closeVisit.data.toList.drop 24 = dktX1_closeVisit_1 := dk_seg dksX1_closeVisit_0 24 rfl rfl
theorem dksX1_closeVisit_2 : cX1_closeVisit.data.toList.drop 48 = dktX1_closeVisit_2 := dk_seg dksX1_closeVisit_1 24 rfl rfl
theorem dX1_closeVisit_0 : decode cX1_closeVisit 0 = .ok (.aload_n 0, 1) := dk_42 (dk_at dksX1_closeVisit_0 0 rfl rfl)
theorem dX1_closeVisit_1 : decode cX1_closeVisit 1 = .ok (.iload_n 1, 1) := dk_27 (dk_at dksX1_closeVisit_0 1 rfl rfl)
theorem dX1_closeVisit_2 : decode cX1_closeVisit 2 = .ok (.invokevirtual 213, 3) := dk_182 0 213 (dk_at dksX1_closeVisit_0 2 rfl rfl)
theorem dX1_closeVisit_5 : decode cX1_closeVisit 5 = .ok (.ifCond .ne 5, 3) := dk_154 0 5 (dk_at dksX1_closeVisit_0 5 rfl rfl)
theorem dX1_closeVisit_8 : decode cX1_closeVisit 8 = .ok (.iconst (-1), 1) := dk_2 (dk_at dksX1_closeVisit_0 8 rfl rfl)
theorem dX1_closeVisit_9 : decode cX1_closeVisit 9 = .ok (.ireturn, 1) := dk_172 (dk_at dksX1_closeVisit_0 9 rfl rfl)
theorem dX1_closeVisit_10 : decode cX1_closeVisit 10 = .ok (.aload_n 0, 1) := dk_42 (dk_at dksX1_closeVisit_0 10 rfl rfl)
theorem dX1_closeVisit_11 : decode cX1_closeVisit 11 = .ok (.getfield 27, 3) := dk_180 0 27 (dk_at dksX1_closeVisit_0 11 rfl rfl)
theorem dX1_closeVisit_14 : decode cX1_closeVisit 14 = .ok (.getfield 179, 3) := dk_180 0 179 (dk_at dksX1_closeVisit_0 14 rfl rfl)
theorem dX1_closeVisit_17 : decode cX1_closeVisit 17 = .ok (.iload_n 1, 1) := dk_27 (dk_at dksX1_closeVisit_0 17 rfl rfl)
theorem dX1_closeVisit_18 : decode cX1_closeVisit 18 = .ok (.invokevirtual 85, 3) := dk_182 0 85 (dk_at dksX1_closeVisit_0 18 rfl rfl)
theorem dX1_closeVisit_21 : decode cX1_closeVisit 21 = .ok (.checkcast 183, 3) := dk_192 0 183 (dk_at dksX1_closeVisit_0 21 rfl rfl)
theorem dX1_closeVisit_24 : decode cX1_closeVisit 24 = .ok (.invokevirtual 200, 3) := dk_182 0 200 (dk_at dksX1_closeVisit_1 0 rfl rfl)
theorem dX1_closeVisit_27 : decode cX1_closeVisit 27 = .ok (.ifCond .eq 6, 3) := dk_153 0 6 (dk_at dksX1_closeVisit_1 3 rfl rfl)
theorem dX1_closeVisit_30 : decode cX1_closeVisit 30 = .ok (.bipush (-2), 2) := dk_16 254 (dk_at dksX1_closeVisit_1 6 rfl rfl)
theorem dX1_closeVisit_32 : decode cX1_closeVisit 32 = .ok (.ireturn, 1) := dk_172 (dk_at dksX1_closeVisit_1 8 rfl rfl)
theorem dX1_closeVisit_33 : decode cX1_closeVisit 33 = .ok (.aload_n 0, 1) := dk_42 (dk_at dksX1_closeVisit_1 9 rfl rfl)
theorem dX1_closeVisit_34 : decode cX1_closeVisit 34 = .ok (.invokevirtual 207, 3) := dk_182 0 207 (dk_at dksX1_closeVisit_1 10 rfl rfl)
theorem dX1_closeVisit_37 : decode cX1_closeVisit 37 = .ok (.aload_n 0, 1) := dk_42 (dk_at dksX1_closeVisit_1 13 rfl rfl)
theorem dX1_closeVisit_38 : decode cX1_closeVisit 38 = .ok (.getfield 27, 3) := dk_180 0 27 (dk_at dksX1_closeVisit_1 14 rfl rfl)
theorem dX1_closeVisit_41 : decode cX1_closeVisit 41 = .ok (.getfield 179, 3) := dk_180 0 179 (dk_at dksX1_closeVisit_1 17 rfl rfl)
theorem dX1_closeVisit_44 : decode cX1_closeVisit 44 = .ok (.iload_n 1, 1) := dk_27 (dk_at dksX1_closeVisit_1 20 rfl rfl)
theorem dX1_closeVisit_45 : decode cX1_closeVisit 45 = .ok (.invokevirtual 85, 3) := dk_182 0 85 (dk_at dksX1_closeVisit_1 21 rfl rfl)
theorem dX1_closeVisit_48 : decode cX1_closeVisit 48 = .ok (.checkcast 183, 3) := dk_192 0 183 (dk_at dksX1_closeVisit_2 0 rfl rfl)
theorem dX1_closeVisit_51 : decode cX1_closeVisit 51 = .ok (.astore_n 2, 1) := dk_77 (dk_at dksX1_closeVisit_2 3 rfl rfl)
theorem dX1_closeVisit_52 : decode cX1_closeVisit 52 = .ok (.aload_n 2, 1) := dk_44 (dk_at dksX1_closeVisit_2 4 rfl rfl)
theorem dX1_closeVisit_53 : decode cX1_closeVisit 53 = .ok (.aload_n 0, 1) := dk_42 (dk_at dksX1_closeVisit_2 5 rfl rfl)
theorem dX1_closeVisit_54 : decode cX1_closeVisit 54 = .ok (.aload_n 2, 1) := dk_44 (dk_at dksX1_closeVisit_2 6 rfl rfl)
theorem dX1_closeVisit_55 : decode cX1_closeVisit 55 = .ok (.iconst 0, 1) := dk_3 (dk_at dksX1_closeVisit_2 7 rfl rfl)
theorem dX1_closeVisit_56 : decode cX1_closeVisit 56 = .ok (.invokevirtual 261, 3) := dk_182 1 5 (dk_at dksX1_closeVisit_2 8 rfl rfl)
theorem dX1_closeVisit_59 : decode cX1_closeVisit 59 = .ok (.putfield 204, 3) := dk_181 0 204 (dk_at dksX1_closeVisit_2 11 rfl rfl)
theorem dX1_closeVisit_62 : decode cX1_closeVisit 62 = .ok (.aload_n 2, 1) := dk_44 (dk_at dksX1_closeVisit_2 14 rfl rfl)
theorem dX1_closeVisit_63 : decode cX1_closeVisit 63 = .ok (.getfield 204, 3) := dk_180 0 204 (dk_at dksX1_closeVisit_2 15 rfl rfl)
theorem dX1_closeVisit_66 : decode cX1_closeVisit 66 = .ok (.ireturn, 1) := dk_172 (dk_at dksX1_closeVisit_2 18 rfl rfl)
abbrev cX1_isClosed : ByteArray := prog_1_method_49_code
def yX1_isClosed : MethodName := ⟨RX1, "isClosed", "(I)I"⟩
def dkwX1_isClosed_1 : List UInt8 := [182, 0, 200, 153, 0, 7, 4, 167, 0, 8, 3, 167, 0, 4, 2, 172]
abbrev dktX1_isClosed_1 : List UInt8 := dkwX1_isClosed_1 ++ []
def dkwX1_isClosed_0 : List UInt8 := [42, 27, 182, 0, 213, 153, 0, 31, 42, 180, 0, 27, 180, 0, 179, 27, 182, 0, 85, 192, 0, 183]
abbrev dktX1_isClosed_0 : List UInt8 := dkwX1_isClosed_0 ++ dktX1_isClosed_1
theorem dksX1_isClosed_0 : cX1_isClosed.data.toList.drop 0 = dktX1_isClosed_0 := by decide +kernel
theorem dksX1_isClosed_1 : cX1_isClosed.data.toList.drop 22 = dktX1_isClosed_1 := dk_seg dksX1_isClosed_0 22 rfl rfl
theorem dX1_isClosed_0 : decode cX1_isClosed 0 = .ok (.aload_n 0, 1) := dk_42 (dk_at dksX1_isClosed_0 0 rfl rfl)
theorem dX1_isClosed_1 : decode cX1_isClosed 1 = .ok (.iload_n 1, 1) := dk_27 (dk_at dksX1_isClosed_0 1 rfl rfl)
theorem dX1_isClosed_2 : decode cX1_isClosed 2 = .ok (.invokevirtual 213, 3) := dk_182 0 213 (dk_at dksX1_isClosed_0 2 rfl rfl)
theorem dX1_isClosed_5 : decode cX1_isClosed 5 = .ok (.ifCond .eq 31, 3) := dk_153 0 31 (dk_at dksX1_isClosed_0 5 rfl rfl)
theorem dX1_isClosed_8 : decode cX1_isClosed 8 = .ok (.aload_n 0, 1) := dk_42 (dk_at dksX1_isClosed_0 8 rfl rfl)
theorem dX1_isClosed_9 : decode cX1_isClosed 9 = .ok (.getfield 27, 3) := dk_180 0 27 (dk_at dksX1_isClosed_0 9 rfl rfl)
theorem dX1_isClosed_12 : decode cX1_isClosed 12 = .ok (.getfield 179, 3) := dk_180 0 179 (dk_at dksX1_isClosed_0 12 rfl rfl)
theorem dX1_isClosed_15 : decode cX1_isClosed 15 = .ok (.iload_n 1, 1) := dk_27 (dk_at dksX1_isClosed_0 15 rfl rfl)
theorem dX1_isClosed_16 : decode cX1_isClosed 16 = .ok (.invokevirtual 85, 3) := dk_182 0 85 (dk_at dksX1_isClosed_0 16 rfl rfl)
theorem dX1_isClosed_19 : decode cX1_isClosed 19 = .ok (.checkcast 183, 3) := dk_192 0 183 (dk_at dksX1_isClosed_0 19 rfl rfl)
theorem dX1_isClosed_22 : decode cX1_isClosed 22 = .ok (.invokevirtual 200, 3) := dk_182 0 200 (dk_at dksX1_isClosed_1 0 rfl rfl)
theorem dX1_isClosed_25 : decode cX1_isClosed 25 = .ok (.ifCond .eq 7, 3) := dk_153 0 7 (dk_at dksX1_isClosed_1 3 rfl rfl)
theorem dX1_isClosed_28 : decode cX1_isClosed 28 = .ok (.iconst 1, 1) := dk_4 (dk_at dksX1_isClosed_1 6 rfl rfl)
theorem dX1_isClosed_29 : decode cX1_isClosed 29 = .ok (.goto 8, 3) := dk_167 0 8 (dk_at dksX1_isClosed_1 7 rfl rfl)
theorem dX1_isClosed_32 : decode cX1_isClosed 32 = .ok (.iconst 0, 1) := dk_3 (dk_at dksX1_isClosed_1 10 rfl rfl)
theorem dX1_isClosed_33 : decode cX1_isClosed 33 = .ok (.goto 4, 3) := dk_167 0 4 (dk_at dksX1_isClosed_1 11 rfl rfl)
theorem dX1_isClosed_36 : decode cX1_isClosed 36 = .ok (.iconst (-1), 1) := dk_2 (dk_at dksX1_isClosed_1 14 rfl rfl)
theorem dX1_isClosed_37 : decode cX1_isClosed 37 = .ok (.ireturn, 1) := dk_172 (dk_at dksX1_isClosed_1 15 rfl rfl)
abbrev cX1_sealState : ByteArray := prog_1_method_53_code
def yX1_sealState : MethodName := ⟨RX1, "sealState", "(II)I"⟩
def dkwX1_sealState_1 : List UInt8 := [2, 172]
abbrev dktX1_sealState_1 : List UInt8 := dkwX1_sealState_1 ++ []
def dkwX1_sealState_0 : List UInt8 := [42, 27, 182, 0, 125, 153, 0, 19, 28, 184, 0, 194, 153, 0, 12, 42, 27, 28, 182, 1, 33, 167, 0, 4]
abbrev dktX1_sealState_0 : List UInt8 := dkwX1_sealState_0 ++ dktX1_sealState_1
theorem dksX1_sealState_0 : cX1_sealState.data.toList.drop 0 = dktX1_sealState_0 := by decide +kernel
theorem dksX1_sealState_1 : cX1_sealState.data.toList.drop 24 = dktX1_sealState_1 := dk_seg dksX1_sealState_0 24 rfl rfl
theorem dX1_sealState_0 : decode cX1_sealState 0 = .ok (.aload_n 0, 1) := dk_42 (dk_at dksX1_sealState_0 0 rfl rfl)
theorem dX1_sealState_1 : decode cX1_sealState 1 = .ok (.iload_n 1, 1) := dk_27 (dk_at dksX1_sealState_0 1 rfl rfl)
theorem dX1_sealState_2 : decode cX1_sealState 2 = .ok (.invokevirtual 125, 3) := dk_182 0 125 (dk_at dksX1_sealState_0 2 rfl rfl)
theorem dX1_sealState_5 : decode cX1_sealState 5 = .ok (.ifCond .eq 19, 3) := dk_153 0 19 (dk_at dksX1_sealState_0 5 rfl rfl)
theorem dX1_sealState_8 : decode cX1_sealState 8 = .ok (.iload_n 2, 1) := dk_28 (dk_at dksX1_sealState_0 8 rfl rfl)
theorem dX1_sealState_9 : decode cX1_sealState 9 = .ok (.invokestatic 194, 3) := dk_184 0 194 (dk_at dksX1_sealState_0 9 rfl rfl)
theorem dX1_sealState_12 : decode cX1_sealState 12 = .ok (.ifCond .eq 12, 3) := dk_153 0 12 (dk_at dksX1_sealState_0 12 rfl rfl)
theorem dX1_sealState_15 : decode cX1_sealState 15 = .ok (.aload_n 0, 1) := dk_42 (dk_at dksX1_sealState_0 15 rfl rfl)
theorem dX1_sealState_16 : decode cX1_sealState 16 = .ok (.iload_n 1, 1) := dk_27 (dk_at dksX1_sealState_0 16 rfl rfl)
theorem dX1_sealState_17 : decode cX1_sealState 17 = .ok (.iload_n 2, 1) := dk_28 (dk_at dksX1_sealState_0 17 rfl rfl)
theorem dX1_sealState_18 : decode cX1_sealState 18 = .ok (.invokevirtual 289, 3) := dk_182 1 33 (dk_at dksX1_sealState_0 18 rfl rfl)
theorem dX1_sealState_21 : decode cX1_sealState 21 = .ok (.goto 4, 3) := dk_167 0 4 (dk_at dksX1_sealState_0 21 rfl rfl)
theorem dX1_sealState_24 : decode cX1_sealState 24 = .ok (.iconst (-1), 1) := dk_2 (dk_at dksX1_sealState_1 0 rfl rfl)
theorem dX1_sealState_25 : decode cX1_sealState 25 = .ok (.ireturn, 1) := dk_172 (dk_at dksX1_sealState_1 1 rfl rfl)
abbrev cX1_stateOf : ByteArray := prog_1_method_52_code
def yX1_stateOf : MethodName := ⟨RX1, "stateOf", "(II)I"⟩
def dkwX1_stateOf_1 : List UInt8 := [17, 1, 104, 108, 42, 45, 182, 1, 30, 162, 0, 7, 4, 167, 0, 4, 5, 172]
abbrev dktX1_stateOf_1 : List UInt8 := dkwX1_stateOf_1 ++ []
def dkwX1_stateOf_0 : List UInt8 := [42, 27, 28, 182, 1, 27, 78, 45, 199, 0, 5, 3, 172, 45, 180, 0, 204, 153, 0, 5, 6, 172, 28]
abbrev dktX1_stateOf_0 : List UInt8 := dkwX1_stateOf_0 ++ dktX1_stateOf_1
theorem dksX1_stateOf_0 : cX1_stateOf.data.toList.drop 0 = dktX1_stateOf_0 := by decide +kernel
theorem dksX1_stateOf_1 : cX1_stateOf.data.toList.drop 23 = dktX1_stateOf_1 := dk_seg dksX1_stateOf_0 23 rfl rfl
theorem dX1_stateOf_0 : decode cX1_stateOf 0 = .ok (.aload_n 0, 1) := dk_42 (dk_at dksX1_stateOf_0 0 rfl rfl)
theorem dX1_stateOf_1 : decode cX1_stateOf 1 = .ok (.iload_n 1, 1) := dk_27 (dk_at dksX1_stateOf_0 1 rfl rfl)
theorem dX1_stateOf_2 : decode cX1_stateOf 2 = .ok (.iload_n 2, 1) := dk_28 (dk_at dksX1_stateOf_0 2 rfl rfl)
theorem dX1_stateOf_3 : decode cX1_stateOf 3 = .ok (.invokevirtual 283, 3) := dk_182 1 27 (dk_at dksX1_stateOf_0 3 rfl rfl)
theorem dX1_stateOf_6 : decode cX1_stateOf 6 = .ok (.astore_n 3, 1) := dk_78 (dk_at dksX1_stateOf_0 6 rfl rfl)
theorem dX1_stateOf_7 : decode cX1_stateOf 7 = .ok (.aload_n 3, 1) := dk_45 (dk_at dksX1_stateOf_0 7 rfl rfl)
theorem dX1_stateOf_8 : decode cX1_stateOf 8 = .ok (.ifnonnull 5, 3) := dk_199 0 5 (dk_at dksX1_stateOf_0 8 rfl rfl)
theorem dX1_stateOf_11 : decode cX1_stateOf 11 = .ok (.iconst 0, 1) := dk_3 (dk_at dksX1_stateOf_0 11 rfl rfl)
theorem dX1_stateOf_12 : decode cX1_stateOf 12 = .ok (.ireturn, 1) := dk_172 (dk_at dksX1_stateOf_0 12 rfl rfl)
theorem dX1_stateOf_13 : decode cX1_stateOf 13 = .ok (.aload_n 3, 1) := dk_45 (dk_at dksX1_stateOf_0 13 rfl rfl)
theorem dX1_stateOf_14 : decode cX1_stateOf 14 = .ok (.getfield 204, 3) := dk_180 0 204 (dk_at dksX1_stateOf_0 14 rfl rfl)
theorem dX1_stateOf_17 : decode cX1_stateOf 17 = .ok (.ifCond .eq 5, 3) := dk_153 0 5 (dk_at dksX1_stateOf_0 17 rfl rfl)
theorem dX1_stateOf_20 : decode cX1_stateOf 20 = .ok (.iconst 3, 1) := dk_6 (dk_at dksX1_stateOf_0 20 rfl rfl)
theorem dX1_stateOf_21 : decode cX1_stateOf 21 = .ok (.ireturn, 1) := dk_172 (dk_at dksX1_stateOf_0 21 rfl rfl)
theorem dX1_stateOf_22 : decode cX1_stateOf 22 = .ok (.iload_n 2, 1) := dk_28 (dk_at dksX1_stateOf_0 22 rfl rfl)
theorem dX1_stateOf_23 : decode cX1_stateOf 23 = .ok (.sipush 360, 3) := dk_17 1 104 (dk_at dksX1_stateOf_1 0 rfl rfl)
theorem dX1_stateOf_26 : decode cX1_stateOf 26 = .ok (.idiv, 1) := dk_108 (dk_at dksX1_stateOf_1 3 rfl rfl)
theorem dX1_stateOf_27 : decode cX1_stateOf 27 = .ok (.aload_n 0, 1) := dk_42 (dk_at dksX1_stateOf_1 4 rfl rfl)
theorem dX1_stateOf_28 : decode cX1_stateOf 28 = .ok (.aload_n 3, 1) := dk_45 (dk_at dksX1_stateOf_1 5 rfl rfl)
theorem dX1_stateOf_29 : decode cX1_stateOf 29 = .ok (.invokevirtual 286, 3) := dk_182 1 30 (dk_at dksX1_stateOf_1 6 rfl rfl)
theorem dX1_stateOf_32 : decode cX1_stateOf 32 = .ok (.if_icmp .ge 7, 3) := dk_162 0 7 (dk_at dksX1_stateOf_1 9 rfl rfl)
theorem dX1_stateOf_35 : decode cX1_stateOf 35 = .ok (.iconst 1, 1) := dk_4 (dk_at dksX1_stateOf_1 12 rfl rfl)
theorem dX1_stateOf_36 : decode cX1_stateOf 36 = .ok (.goto 4, 3) := dk_167 0 4 (dk_at dksX1_stateOf_1 13 rfl rfl)
theorem dX1_stateOf_39 : decode cX1_stateOf 39 = .ok (.iconst 2, 1) := dk_5 (dk_at dksX1_stateOf_1 16 rfl rfl)
theorem dX1_stateOf_40 : decode cX1_stateOf 40 = .ok (.ireturn, 1) := dk_172 (dk_at dksX1_stateOf_1 17 rfl rfl)
abbrev cX1_lastClosed : ByteArray := prog_1_method_50_code
def yX1_lastClosed : MethodName := ⟨RX1, "lastClosed", "(II)LScaleInspection$Visit;"⟩
def dkwX1_lastClosed_3 : List UInt8 := [45, 176]
abbrev dktX1_lastClosed_3 : List UInt8 := dkwX1_lastClosed_3 ++ []
def dkwX1_lastClosed_2 : List UInt8 := [182, 0, 200, 153, 0, 15, 25, 5, 180, 0, 197, 28, 163, 0, 6, 25, 5, 78, 132, 4, 1, 167, 255, 192]
abbrev dktX1_lastClosed_2 : List UInt8 := dkwX1_lastClosed_2 ++ dktX1_lastClosed_3
def dkwX1_lastClosed_1 : List UInt8 := [180, 0, 179, 21, 4, 182, 0, 85, 192, 0, 183, 58, 5, 25, 5, 180, 0, 182, 27, 160, 0, 23, 25, 5]
abbrev dktX1_lastClosed_1 : List UInt8 := dkwX1_lastClosed_1 ++ dktX1_lastClosed_2
def dkwX1_lastClosed_0 : List UInt8 := [1, 78, 3, 54, 4, 21, 4, 42, 180, 0, 27, 180, 0, 179, 182, 0, 80, 162, 0, 55, 42, 180, 0, 27]
abbrev dktX1_lastClosed_0 : List UInt8 := dkwX1_lastClosed_0 ++ dktX1_lastClosed_1
theorem dksX1_lastClosed_0 : cX1_lastClosed.data.toList.drop 0 = dktX1_lastClosed_0 := by decide +kernel
theorem dksX1_lastClosed_1 : cX1_lastClosed.data.toList.drop 24 = dktX1_lastClosed_1 := dk_seg dksX1_lastClosed_0 24 rfl rfl
theorem dksX1_lastClosed_2 : cX1_lastClosed.data.toList.drop 48 = dktX1_lastClosed_2 := dk_seg dksX1_lastClosed_1 24 rfl rfl
theorem dksX1_lastClosed_3 : cX1_lastClosed.data.toList.drop 72 = dktX1_lastClosed_3 := dk_seg dksX1_lastClosed_2 24 rfl rfl
theorem dX1_lastClosed_0 : decode cX1_lastClosed 0 = .ok (.aconst_null, 1) := dk_1 (dk_at dksX1_lastClosed_0 0 rfl rfl)
theorem dX1_lastClosed_1 : decode cX1_lastClosed 1 = .ok (.astore_n 3, 1) := dk_78 (dk_at dksX1_lastClosed_0 1 rfl rfl)
theorem dX1_lastClosed_2 : decode cX1_lastClosed 2 = .ok (.iconst 0, 1) := dk_3 (dk_at dksX1_lastClosed_0 2 rfl rfl)
theorem dX1_lastClosed_3 : decode cX1_lastClosed 3 = .ok (.istore 4, 2) := dk_54 4 (dk_at dksX1_lastClosed_0 3 rfl rfl)
theorem dX1_lastClosed_5 : decode cX1_lastClosed 5 = .ok (.iload 4, 2) := dk_21 4 (dk_at dksX1_lastClosed_0 5 rfl rfl)
theorem dX1_lastClosed_7 : decode cX1_lastClosed 7 = .ok (.aload_n 0, 1) := dk_42 (dk_at dksX1_lastClosed_0 7 rfl rfl)
theorem dX1_lastClosed_8 : decode cX1_lastClosed 8 = .ok (.getfield 27, 3) := dk_180 0 27 (dk_at dksX1_lastClosed_0 8 rfl rfl)
theorem dX1_lastClosed_11 : decode cX1_lastClosed 11 = .ok (.getfield 179, 3) := dk_180 0 179 (dk_at dksX1_lastClosed_0 11 rfl rfl)
theorem dX1_lastClosed_14 : decode cX1_lastClosed 14 = .ok (.invokevirtual 80, 3) := dk_182 0 80 (dk_at dksX1_lastClosed_0 14 rfl rfl)
theorem dX1_lastClosed_17 : decode cX1_lastClosed 17 = .ok (.if_icmp .ge 55, 3) := dk_162 0 55 (dk_at dksX1_lastClosed_0 17 rfl rfl)
theorem dX1_lastClosed_20 : decode cX1_lastClosed 20 = .ok (.aload_n 0, 1) := dk_42 (dk_at dksX1_lastClosed_0 20 rfl rfl)
theorem dX1_lastClosed_21 : decode cX1_lastClosed 21 = .ok (.getfield 27, 3) := dk_180 0 27 (dk_at dksX1_lastClosed_0 21 rfl rfl)
theorem dX1_lastClosed_24 : decode cX1_lastClosed 24 = .ok (.getfield 179, 3) := dk_180 0 179 (dk_at dksX1_lastClosed_1 0 rfl rfl)
theorem dX1_lastClosed_27 : decode cX1_lastClosed 27 = .ok (.iload 4, 2) := dk_21 4 (dk_at dksX1_lastClosed_1 3 rfl rfl)
theorem dX1_lastClosed_29 : decode cX1_lastClosed 29 = .ok (.invokevirtual 85, 3) := dk_182 0 85 (dk_at dksX1_lastClosed_1 5 rfl rfl)
theorem dX1_lastClosed_32 : decode cX1_lastClosed 32 = .ok (.checkcast 183, 3) := dk_192 0 183 (dk_at dksX1_lastClosed_1 8 rfl rfl)
theorem dX1_lastClosed_35 : decode cX1_lastClosed 35 = .ok (.astore 5, 2) := dk_58 5 (dk_at dksX1_lastClosed_1 11 rfl rfl)
theorem dX1_lastClosed_37 : decode cX1_lastClosed 37 = .ok (.aload 5, 2) := dk_25 5 (dk_at dksX1_lastClosed_1 13 rfl rfl)
theorem dX1_lastClosed_39 : decode cX1_lastClosed 39 = .ok (.getfield 182, 3) := dk_180 0 182 (dk_at dksX1_lastClosed_1 15 rfl rfl)
theorem dX1_lastClosed_42 : decode cX1_lastClosed 42 = .ok (.iload_n 1, 1) := dk_27 (dk_at dksX1_lastClosed_1 18 rfl rfl)
theorem dX1_lastClosed_43 : decode cX1_lastClosed 43 = .ok (.if_icmp .ne 23, 3) := dk_160 0 23 (dk_at dksX1_lastClosed_1 19 rfl rfl)
theorem dX1_lastClosed_46 : decode cX1_lastClosed 46 = .ok (.aload 5, 2) := dk_25 5 (dk_at dksX1_lastClosed_1 22 rfl rfl)
theorem dX1_lastClosed_48 : decode cX1_lastClosed 48 = .ok (.invokevirtual 200, 3) := dk_182 0 200 (dk_at dksX1_lastClosed_2 0 rfl rfl)
theorem dX1_lastClosed_51 : decode cX1_lastClosed 51 = .ok (.ifCond .eq 15, 3) := dk_153 0 15 (dk_at dksX1_lastClosed_2 3 rfl rfl)
theorem dX1_lastClosed_54 : decode cX1_lastClosed 54 = .ok (.aload 5, 2) := dk_25 5 (dk_at dksX1_lastClosed_2 6 rfl rfl)
theorem dX1_lastClosed_56 : decode cX1_lastClosed 56 = .ok (.getfield 197, 3) := dk_180 0 197 (dk_at dksX1_lastClosed_2 8 rfl rfl)
theorem dX1_lastClosed_59 : decode cX1_lastClosed 59 = .ok (.iload_n 2, 1) := dk_28 (dk_at dksX1_lastClosed_2 11 rfl rfl)
theorem dX1_lastClosed_60 : decode cX1_lastClosed 60 = .ok (.if_icmp .gt 6, 3) := dk_163 0 6 (dk_at dksX1_lastClosed_2 12 rfl rfl)
theorem dX1_lastClosed_63 : decode cX1_lastClosed 63 = .ok (.aload 5, 2) := dk_25 5 (dk_at dksX1_lastClosed_2 15 rfl rfl)
theorem dX1_lastClosed_65 : decode cX1_lastClosed 65 = .ok (.astore_n 3, 1) := dk_78 (dk_at dksX1_lastClosed_2 17 rfl rfl)
theorem dX1_lastClosed_66 : decode cX1_lastClosed 66 = .ok (.iinc 4 1, 3) := dk_132 4 1 (dk_at dksX1_lastClosed_2 18 rfl rfl)
theorem dX1_lastClosed_69 : decode cX1_lastClosed 69 = .ok (.goto (-64), 3) := dk_167 255 192 (dk_at dksX1_lastClosed_2 21 rfl rfl)
theorem dX1_lastClosed_72 : decode cX1_lastClosed 72 = .ok (.aload_n 3, 1) := dk_45 (dk_at dksX1_lastClosed_3 0 rfl rfl)
theorem dX1_lastClosed_73 : decode cX1_lastClosed 73 = .ok (.areturn, 1) := dk_176 (dk_at dksX1_lastClosed_3 1 rfl rfl)
abbrev cX1_expiryYear : ByteArray := prog_1_method_51_code
def yX1_expiryYear : MethodName := ⟨RX1, "expiryYear", "(LScaleInspection$Visit;)I"⟩
def dkwX1_expiryYear_1 : List UInt8 := [96, 172]
abbrev dktX1_expiryYear_1 : List UInt8 := dkwX1_expiryYear_1 ++ []
def dkwX1_expiryYear_0 : List UInt8 := [43, 180, 0, 197, 17, 1, 104, 108, 42, 180, 0, 20, 180, 1, 21, 42, 43, 182, 0, 219, 180, 1, 24, 46]
abbrev dktX1_expiryYear_0 : List UInt8 := dkwX1_expiryYear_0 ++ dktX1_expiryYear_1
theorem dksX1_expiryYear_0 : cX1_expiryYear.data.toList.drop 0 = dktX1_expiryYear_0 := by decide +kernel
theorem dksX1_expiryYear_1 : cX1_expiryYear.data.toList.drop 24 = dktX1_expiryYear_1 := dk_seg dksX1_expiryYear_0 24 rfl rfl
theorem dX1_expiryYear_0 : decode cX1_expiryYear 0 = .ok (.aload_n 1, 1) := dk_43 (dk_at dksX1_expiryYear_0 0 rfl rfl)
theorem dX1_expiryYear_1 : decode cX1_expiryYear 1 = .ok (.getfield 197, 3) := dk_180 0 197 (dk_at dksX1_expiryYear_0 1 rfl rfl)
theorem dX1_expiryYear_4 : decode cX1_expiryYear 4 = .ok (.sipush 360, 3) := dk_17 1 104 (dk_at dksX1_expiryYear_0 4 rfl rfl)
theorem dX1_expiryYear_7 : decode cX1_expiryYear 7 = .ok (.idiv, 1) := dk_108 (dk_at dksX1_expiryYear_0 7 rfl rfl)
theorem dX1_expiryYear_8 : decode cX1_expiryYear 8 = .ok (.aload_n 0, 1) := dk_42 (dk_at dksX1_expiryYear_0 8 rfl rfl)
theorem dX1_expiryYear_9 : decode cX1_expiryYear 9 = .ok (.getfield 20, 3) := dk_180 0 20 (dk_at dksX1_expiryYear_0 9 rfl rfl)
theorem dX1_expiryYear_12 : decode cX1_expiryYear 12 = .ok (.getfield 277, 3) := dk_180 1 21 (dk_at dksX1_expiryYear_0 12 rfl rfl)
theorem dX1_expiryYear_15 : decode cX1_expiryYear 15 = .ok (.aload_n 0, 1) := dk_42 (dk_at dksX1_expiryYear_0 15 rfl rfl)
theorem dX1_expiryYear_16 : decode cX1_expiryYear 16 = .ok (.aload_n 1, 1) := dk_43 (dk_at dksX1_expiryYear_0 16 rfl rfl)
theorem dX1_expiryYear_17 : decode cX1_expiryYear 17 = .ok (.invokevirtual 219, 3) := dk_182 0 219 (dk_at dksX1_expiryYear_0 17 rfl rfl)
theorem dX1_expiryYear_20 : decode cX1_expiryYear 20 = .ok (.getfield 280, 3) := dk_180 1 24 (dk_at dksX1_expiryYear_0 20 rfl rfl)
theorem dX1_expiryYear_23 : decode cX1_expiryYear 23 = .ok (.iaload, 1) := dk_46 (dk_at dksX1_expiryYear_0 23 rfl rfl)
theorem dX1_expiryYear_24 : decode cX1_expiryYear 24 = .ok (.iadd, 1) := dk_96 (dk_at dksX1_expiryYear_1 0 rfl rfl)
theorem dX1_expiryYear_25 : decode cX1_expiryYear 25 = .ok (.ireturn, 1) := dk_172 (dk_at dksX1_expiryYear_1 1 rfl rfl)
abbrev cX1_expiryDay : ByteArray := prog_1_method_54_code
def yX1_expiryDay : MethodName := ⟨RX1, "expiryDay", "(II)I"⟩
def dkwX1_expiryDay_1 : List UInt8 := [160, 0, 20, 17, 1, 104, 42, 42, 27, 28, 182, 1, 27, 182, 1, 30, 104, 167, 0, 5, 16, 254, 172]
abbrev dktX1_expiryDay_1 : List UInt8 := dkwX1_expiryDay_1 ++ []
def dkwX1_expiryDay_0 : List UInt8 := [42, 27, 182, 0, 125, 153, 0, 10, 28, 184, 0, 194, 154, 0, 5, 2, 172, 42, 27, 28, 182, 1, 33, 4]
abbrev dktX1_expiryDay_0 : List UInt8 := dkwX1_expiryDay_0 ++ dktX1_expiryDay_1
theorem dksX1_expiryDay_0 : cX1_expiryDay.data.toList.drop 0 = dktX1_expiryDay_0 := by decide +kernel
theorem dksX1_expiryDay_1 : cX1_expiryDay.data.toList.drop 24 = dktX1_expiryDay_1 := dk_seg dksX1_expiryDay_0 24 rfl rfl
theorem dX1_expiryDay_0 : decode cX1_expiryDay 0 = .ok (.aload_n 0, 1) := dk_42 (dk_at dksX1_expiryDay_0 0 rfl rfl)
theorem dX1_expiryDay_1 : decode cX1_expiryDay 1 = .ok (.iload_n 1, 1) := dk_27 (dk_at dksX1_expiryDay_0 1 rfl rfl)
theorem dX1_expiryDay_2 : decode cX1_expiryDay 2 = .ok (.invokevirtual 125, 3) := dk_182 0 125 (dk_at dksX1_expiryDay_0 2 rfl rfl)
theorem dX1_expiryDay_5 : decode cX1_expiryDay 5 = .ok (.ifCond .eq 10, 3) := dk_153 0 10 (dk_at dksX1_expiryDay_0 5 rfl rfl)
theorem dX1_expiryDay_8 : decode cX1_expiryDay 8 = .ok (.iload_n 2, 1) := dk_28 (dk_at dksX1_expiryDay_0 8 rfl rfl)
theorem dX1_expiryDay_9 : decode cX1_expiryDay 9 = .ok (.invokestatic 194, 3) := dk_184 0 194 (dk_at dksX1_expiryDay_0 9 rfl rfl)
theorem dX1_expiryDay_12 : decode cX1_expiryDay 12 = .ok (.ifCond .ne 5, 3) := dk_154 0 5 (dk_at dksX1_expiryDay_0 12 rfl rfl)
theorem dX1_expiryDay_15 : decode cX1_expiryDay 15 = .ok (.iconst (-1), 1) := dk_2 (dk_at dksX1_expiryDay_0 15 rfl rfl)
theorem dX1_expiryDay_16 : decode cX1_expiryDay 16 = .ok (.ireturn, 1) := dk_172 (dk_at dksX1_expiryDay_0 16 rfl rfl)
theorem dX1_expiryDay_17 : decode cX1_expiryDay 17 = .ok (.aload_n 0, 1) := dk_42 (dk_at dksX1_expiryDay_0 17 rfl rfl)
theorem dX1_expiryDay_18 : decode cX1_expiryDay 18 = .ok (.iload_n 1, 1) := dk_27 (dk_at dksX1_expiryDay_0 18 rfl rfl)
theorem dX1_expiryDay_19 : decode cX1_expiryDay 19 = .ok (.iload_n 2, 1) := dk_28 (dk_at dksX1_expiryDay_0 19 rfl rfl)
theorem dX1_expiryDay_20 : decode cX1_expiryDay 20 = .ok (.invokevirtual 289, 3) := dk_182 1 33 (dk_at dksX1_expiryDay_0 20 rfl rfl)
theorem dX1_expiryDay_23 : decode cX1_expiryDay 23 = .ok (.iconst 1, 1) := dk_4 (dk_at dksX1_expiryDay_0 23 rfl rfl)
theorem dX1_expiryDay_24 : decode cX1_expiryDay 24 = .ok (.if_icmp .ne 20, 3) := dk_160 0 20 (dk_at dksX1_expiryDay_1 0 rfl rfl)
theorem dX1_expiryDay_27 : decode cX1_expiryDay 27 = .ok (.sipush 360, 3) := dk_17 1 104 (dk_at dksX1_expiryDay_1 3 rfl rfl)
theorem dX1_expiryDay_30 : decode cX1_expiryDay 30 = .ok (.aload_n 0, 1) := dk_42 (dk_at dksX1_expiryDay_1 6 rfl rfl)
theorem dX1_expiryDay_31 : decode cX1_expiryDay 31 = .ok (.aload_n 0, 1) := dk_42 (dk_at dksX1_expiryDay_1 7 rfl rfl)
theorem dX1_expiryDay_32 : decode cX1_expiryDay 32 = .ok (.iload_n 1, 1) := dk_27 (dk_at dksX1_expiryDay_1 8 rfl rfl)
theorem dX1_expiryDay_33 : decode cX1_expiryDay 33 = .ok (.iload_n 2, 1) := dk_28 (dk_at dksX1_expiryDay_1 9 rfl rfl)
theorem dX1_expiryDay_34 : decode cX1_expiryDay 34 = .ok (.invokevirtual 283, 3) := dk_182 1 27 (dk_at dksX1_expiryDay_1 10 rfl rfl)
theorem dX1_expiryDay_37 : decode cX1_expiryDay 37 = .ok (.invokevirtual 286, 3) := dk_182 1 30 (dk_at dksX1_expiryDay_1 13 rfl rfl)
theorem dX1_expiryDay_40 : decode cX1_expiryDay 40 = .ok (.imul, 1) := dk_104 (dk_at dksX1_expiryDay_1 16 rfl rfl)
theorem dX1_expiryDay_41 : decode cX1_expiryDay 41 = .ok (.goto 5, 3) := dk_167 0 5 (dk_at dksX1_expiryDay_1 17 rfl rfl)
theorem dX1_expiryDay_44 : decode cX1_expiryDay 44 = .ok (.bipush (-2), 2) := dk_16 254 (dk_at dksX1_expiryDay_1 20 rfl rfl)
theorem dX1_expiryDay_46 : decode cX1_expiryDay 46 = .ok (.ireturn, 1) := dk_172 (dk_at dksX1_expiryDay_1 22 rfl rfl)
abbrev cX1_scalesWith : ByteArray := prog_1_method_55_code
def yX1_scalesWith : MethodName := ⟨RX1, "scalesWith", "(II)I"⟩
def dkwX1_scalesWith_2 : List UInt8 := [27, 160, 0, 10, 29, 4, 21, 4, 120, 128, 62, 132, 4, 1, 167, 255, 220, 29, 172]
abbrev dktX1_scalesWith_2 : List UInt8 := dkwX1_scalesWith_2 ++ []
def dkwX1_scalesWith_1 : List UInt8 := [54, 4, 21, 4, 42, 180, 0, 20, 180, 0, 117, 182, 0, 80, 162, 0, 27, 42, 21, 4, 28, 182, 1, 33]
abbrev dktX1_scalesWith_1 : List UInt8 := dkwX1_scalesWith_1 ++ dktX1_scalesWith_2
def dkwX1_scalesWith_0 : List UInt8 := [27, 133, 9, 20, 1, 36, 184, 0, 56, 153, 0, 10, 28, 184, 0, 194, 154, 0, 5, 2, 172, 3, 62, 3]
abbrev dktX1_scalesWith_0 : List UInt8 := dkwX1_scalesWith_0 ++ dktX1_scalesWith_1
theorem dksX1_scalesWith_0 : cX1_scalesWith.data.toList.drop 0 = dktX1_scalesWith_0 := by decide +kernel
theorem dksX1_scalesWith_1 : cX1_scalesWith.data.toList.drop 24 = dktX1_scalesWith_1 := dk_seg dksX1_scalesWith_0 24 rfl rfl
theorem dksX1_scalesWith_2 : cX1_scalesWith.data.toList.drop 48 = dktX1_scalesWith_2 := dk_seg dksX1_scalesWith_1 24 rfl rfl
theorem dX1_scalesWith_0 : decode cX1_scalesWith 0 = .ok (.iload_n 1, 1) := dk_27 (dk_at dksX1_scalesWith_0 0 rfl rfl)
theorem dX1_scalesWith_1 : decode cX1_scalesWith 1 = .ok (.i2l, 1) := dk_133 (dk_at dksX1_scalesWith_0 1 rfl rfl)
theorem dX1_scalesWith_2 : decode cX1_scalesWith 2 = .ok (.lconst 0, 1) := dk_9 (dk_at dksX1_scalesWith_0 2 rfl rfl)
theorem dX1_scalesWith_3 : decode cX1_scalesWith 3 = .ok (.ldc2_w 292, 3) := dk_20 1 36 (dk_at dksX1_scalesWith_0 3 rfl rfl)
theorem dX1_scalesWith_6 : decode cX1_scalesWith 6 = .ok (.invokestatic 56, 3) := dk_184 0 56 (dk_at dksX1_scalesWith_0 6 rfl rfl)
theorem dX1_scalesWith_9 : decode cX1_scalesWith 9 = .ok (.ifCond .eq 10, 3) := dk_153 0 10 (dk_at dksX1_scalesWith_0 9 rfl rfl)
theorem dX1_scalesWith_12 : decode cX1_scalesWith 12 = .ok (.iload_n 2, 1) := dk_28 (dk_at dksX1_scalesWith_0 12 rfl rfl)
theorem dX1_scalesWith_13 : decode cX1_scalesWith 13 = .ok (.invokestatic 194, 3) := dk_184 0 194 (dk_at dksX1_scalesWith_0 13 rfl rfl)
theorem dX1_scalesWith_16 : decode cX1_scalesWith 16 = .ok (.ifCond .ne 5, 3) := dk_154 0 5 (dk_at dksX1_scalesWith_0 16 rfl rfl)
theorem dX1_scalesWith_19 : decode cX1_scalesWith 19 = .ok (.iconst (-1), 1) := dk_2 (dk_at dksX1_scalesWith_0 19 rfl rfl)
theorem dX1_scalesWith_20 : decode cX1_scalesWith 20 = .ok (.ireturn, 1) := dk_172 (dk_at dksX1_scalesWith_0 20 rfl rfl)
theorem dX1_scalesWith_21 : decode cX1_scalesWith 21 = .ok (.iconst 0, 1) := dk_3 (dk_at dksX1_scalesWith_0 21 rfl rfl)
theorem dX1_scalesWith_22 : decode cX1_scalesWith 22 = .ok (.istore_n 3, 1) := dk_62 (dk_at dksX1_scalesWith_0 22 rfl rfl)
theorem dX1_scalesWith_23 : decode cX1_scalesWith 23 = .ok (.iconst 0, 1) := dk_3 (dk_at dksX1_scalesWith_0 23 rfl rfl)
theorem dX1_scalesWith_24 : decode cX1_scalesWith 24 = .ok (.istore 4, 2) := dk_54 4 (dk_at dksX1_scalesWith_1 0 rfl rfl)
theorem dX1_scalesWith_26 : decode cX1_scalesWith 26 = .ok (.iload 4, 2) := dk_21 4 (dk_at dksX1_scalesWith_1 2 rfl rfl)
theorem dX1_scalesWith_28 : decode cX1_scalesWith 28 = .ok (.aload_n 0, 1) := dk_42 (dk_at dksX1_scalesWith_1 4 rfl rfl)
theorem dX1_scalesWith_29 : decode cX1_scalesWith 29 = .ok (.getfield 20, 3) := dk_180 0 20 (dk_at dksX1_scalesWith_1 5 rfl rfl)
theorem dX1_scalesWith_32 : decode cX1_scalesWith 32 = .ok (.getfield 117, 3) := dk_180 0 117 (dk_at dksX1_scalesWith_1 8 rfl rfl)
theorem dX1_scalesWith_35 : decode cX1_scalesWith 35 = .ok (.invokevirtual 80, 3) := dk_182 0 80 (dk_at dksX1_scalesWith_1 11 rfl rfl)
theorem dX1_scalesWith_38 : decode cX1_scalesWith 38 = .ok (.if_icmp .ge 27, 3) := dk_162 0 27 (dk_at dksX1_scalesWith_1 14 rfl rfl)
theorem dX1_scalesWith_41 : decode cX1_scalesWith 41 = .ok (.aload_n 0, 1) := dk_42 (dk_at dksX1_scalesWith_1 17 rfl rfl)
theorem dX1_scalesWith_42 : decode cX1_scalesWith 42 = .ok (.iload 4, 2) := dk_21 4 (dk_at dksX1_scalesWith_1 18 rfl rfl)
theorem dX1_scalesWith_44 : decode cX1_scalesWith 44 = .ok (.iload_n 2, 1) := dk_28 (dk_at dksX1_scalesWith_1 20 rfl rfl)
theorem dX1_scalesWith_45 : decode cX1_scalesWith 45 = .ok (.invokevirtual 289, 3) := dk_182 1 33 (dk_at dksX1_scalesWith_1 21 rfl rfl)
theorem dX1_scalesWith_48 : decode cX1_scalesWith 48 = .ok (.iload_n 1, 1) := dk_27 (dk_at dksX1_scalesWith_2 0 rfl rfl)
theorem dX1_scalesWith_49 : decode cX1_scalesWith 49 = .ok (.if_icmp .ne 10, 3) := dk_160 0 10 (dk_at dksX1_scalesWith_2 1 rfl rfl)
theorem dX1_scalesWith_52 : decode cX1_scalesWith 52 = .ok (.iload_n 3, 1) := dk_29 (dk_at dksX1_scalesWith_2 4 rfl rfl)
theorem dX1_scalesWith_53 : decode cX1_scalesWith 53 = .ok (.iconst 1, 1) := dk_4 (dk_at dksX1_scalesWith_2 5 rfl rfl)
theorem dX1_scalesWith_54 : decode cX1_scalesWith 54 = .ok (.iload 4, 2) := dk_21 4 (dk_at dksX1_scalesWith_2 6 rfl rfl)
theorem dX1_scalesWith_56 : decode cX1_scalesWith 56 = .ok (.ishl, 1) := dk_120 (dk_at dksX1_scalesWith_2 8 rfl rfl)
theorem dX1_scalesWith_57 : decode cX1_scalesWith 57 = .ok (.ior, 1) := dk_128 (dk_at dksX1_scalesWith_2 9 rfl rfl)
theorem dX1_scalesWith_58 : decode cX1_scalesWith 58 = .ok (.istore_n 3, 1) := dk_62 (dk_at dksX1_scalesWith_2 10 rfl rfl)
theorem dX1_scalesWith_59 : decode cX1_scalesWith 59 = .ok (.iinc 4 1, 3) := dk_132 4 1 (dk_at dksX1_scalesWith_2 11 rfl rfl)
theorem dX1_scalesWith_62 : decode cX1_scalesWith 62 = .ok (.goto (-36), 3) := dk_167 255 220 (dk_at dksX1_scalesWith_2 14 rfl rfl)
theorem dX1_scalesWith_65 : decode cX1_scalesWith 65 = .ok (.iload_n 3, 1) := dk_29 (dk_at dksX1_scalesWith_2 17 rfl rfl)
theorem dX1_scalesWith_66 : decode cX1_scalesWith 66 = .ok (.ireturn, 1) := dk_172 (dk_at dksX1_scalesWith_2 18 rfl rfl)
abbrev cX1_risk : ByteArray := prog_1_method_57_code
def yX1_risk : MethodName := ⟨RX1, "risk", "(II)I"⟩
def dkwX1_risk_1 : List UInt8 := [2, 172]
abbrev dktX1_risk_1 : List UInt8 := dkwX1_risk_1 ++ []
def dkwX1_risk_0 : List UInt8 := [42, 27, 182, 0, 125, 153, 0, 19, 28, 184, 0, 194, 153, 0, 12, 42, 27, 28, 182, 1, 38, 167, 0, 4]
abbrev dktX1_risk_0 : List UInt8 := dkwX1_risk_0 ++ dktX1_risk_1
theorem dksX1_risk_0 : cX1_risk.data.toList.drop 0 = dktX1_risk_0 := by decide +kernel
theorem dksX1_risk_1 : cX1_risk.data.toList.drop 24 = dktX1_risk_1 := dk_seg dksX1_risk_0 24 rfl rfl
theorem dX1_risk_0 : decode cX1_risk 0 = .ok (.aload_n 0, 1) := dk_42 (dk_at dksX1_risk_0 0 rfl rfl)
theorem dX1_risk_1 : decode cX1_risk 1 = .ok (.iload_n 1, 1) := dk_27 (dk_at dksX1_risk_0 1 rfl rfl)
theorem dX1_risk_2 : decode cX1_risk 2 = .ok (.invokevirtual 125, 3) := dk_182 0 125 (dk_at dksX1_risk_0 2 rfl rfl)
theorem dX1_risk_5 : decode cX1_risk 5 = .ok (.ifCond .eq 19, 3) := dk_153 0 19 (dk_at dksX1_risk_0 5 rfl rfl)
theorem dX1_risk_8 : decode cX1_risk 8 = .ok (.iload_n 2, 1) := dk_28 (dk_at dksX1_risk_0 8 rfl rfl)
theorem dX1_risk_9 : decode cX1_risk 9 = .ok (.invokestatic 194, 3) := dk_184 0 194 (dk_at dksX1_risk_0 9 rfl rfl)
theorem dX1_risk_12 : decode cX1_risk 12 = .ok (.ifCond .eq 12, 3) := dk_153 0 12 (dk_at dksX1_risk_0 12 rfl rfl)
theorem dX1_risk_15 : decode cX1_risk 15 = .ok (.aload_n 0, 1) := dk_42 (dk_at dksX1_risk_0 15 rfl rfl)
theorem dX1_risk_16 : decode cX1_risk 16 = .ok (.iload_n 1, 1) := dk_27 (dk_at dksX1_risk_0 16 rfl rfl)
theorem dX1_risk_17 : decode cX1_risk 17 = .ok (.iload_n 2, 1) := dk_28 (dk_at dksX1_risk_0 17 rfl rfl)
theorem dX1_risk_18 : decode cX1_risk 18 = .ok (.invokevirtual 294, 3) := dk_182 1 38 (dk_at dksX1_risk_0 18 rfl rfl)
theorem dX1_risk_21 : decode cX1_risk 21 = .ok (.goto 4, 3) := dk_167 0 4 (dk_at dksX1_risk_0 21 rfl rfl)
theorem dX1_risk_24 : decode cX1_risk 24 = .ok (.iconst (-1), 1) := dk_2 (dk_at dksX1_risk_1 0 rfl rfl)
theorem dX1_risk_25 : decode cX1_risk 25 = .ok (.ireturn, 1) := dk_172 (dk_at dksX1_risk_1 1 rfl rfl)
abbrev cX1_riskOf : ByteArray := prog_1_method_56_code
def yX1_riskOf : MethodName := ⟨RX1, "riskOf", "(II)I"⟩
def dkwX1_riskOf_8 : List UInt8 := [132, 4, 1, 132, 5, 1, 167, 255, 180, 21, 4, 172]
abbrev dktX1_riskOf_8 : List UInt8 := dkwX1_riskOf_8 ++ []
def dkwX1_riskOf_7 : List UInt8 := [27, 182, 0, 85, 192, 0, 129, 180, 0, 131, 160, 0, 17, 42, 21, 5, 28, 182, 1, 33, 6, 160, 0, 6]
abbrev dktX1_riskOf_7 : List UInt8 := dkwX1_riskOf_7 ++ dktX1_riskOf_8
def dkwX1_riskOf_6 : List UInt8 := [180, 0, 20, 180, 0, 117, 21, 5, 182, 0, 85, 192, 0, 129, 180, 0, 131, 42, 180, 0, 20, 180, 0, 117]
abbrev dktX1_riskOf_6 : List UInt8 := dkwX1_riskOf_6 ++ dktX1_riskOf_7
def dkwX1_riskOf_5 : List UInt8 := [21, 5, 42, 180, 0, 20, 180, 0, 117, 182, 0, 80, 162, 0, 67, 21, 5, 27, 159, 0, 55, 42]
abbrev dktX1_riskOf_5 : List UInt8 := dkwX1_riskOf_5 ++ dktX1_riskOf_6
def dkwX1_riskOf_4 : List UInt8 := [153, 0, 15, 25, 6, 180, 0, 197, 28, 163, 0, 6, 132, 4, 1, 132, 5, 1, 167, 255, 184, 3, 54, 5]
abbrev dktX1_riskOf_4 : List UInt8 := dkwX1_riskOf_4 ++ dktX1_riskOf_5
def dkwX1_riskOf_3 : List UInt8 := [58, 6, 25, 6, 180, 0, 182, 27, 160, 0, 31, 25, 6, 182, 0, 200, 153, 0, 23, 25, 6, 180, 0, 204]
abbrev dktX1_riskOf_3 : List UInt8 := dkwX1_riskOf_3 ++ dktX1_riskOf_4
def dkwX1_riskOf_2 : List UInt8 := [180, 0, 179, 182, 0, 80, 162, 0, 63, 42, 180, 0, 27, 180, 0, 179, 21, 5, 182, 0, 85, 192, 0, 183]
abbrev dktX1_riskOf_2 : List UInt8 := dkwX1_riskOf_2 ++ dktX1_riskOf_3
def dkwX1_riskOf_1 : List UInt8 := [29, 5, 160, 0, 7, 6, 167, 0, 5, 16, 6, 54, 4, 3, 54, 5, 21, 5, 42, 180, 0, 27]
abbrev dktX1_riskOf_1 : List UInt8 := dkwX1_riskOf_1 ++ dktX1_riskOf_2
def dkwX1_riskOf_0 : List UInt8 := [42, 27, 28, 182, 1, 33, 62, 29, 154, 0, 7, 7, 167, 0, 23, 29, 4, 160, 0, 7, 4, 167, 0, 14]
abbrev dktX1_riskOf_0 : List UInt8 := dkwX1_riskOf_0 ++ dktX1_riskOf_1
theorem dksX1_riskOf_0 : cX1_riskOf.data.toList.drop 0 = dktX1_riskOf_0 := by decide +kernel
theorem dksX1_riskOf_1 : cX1_riskOf.data.toList.drop 24 = dktX1_riskOf_1 := dk_seg dksX1_riskOf_0 24 rfl rfl
theorem dksX1_riskOf_2 : cX1_riskOf.data.toList.drop 46 = dktX1_riskOf_2 := dk_seg dksX1_riskOf_1 22 rfl rfl
theorem dksX1_riskOf_3 : cX1_riskOf.data.toList.drop 70 = dktX1_riskOf_3 := dk_seg dksX1_riskOf_2 24 rfl rfl
theorem dksX1_riskOf_4 : cX1_riskOf.data.toList.drop 94 = dktX1_riskOf_4 := dk_seg dksX1_riskOf_3 24 rfl rfl
theorem dksX1_riskOf_5 : cX1_riskOf.data.toList.drop 118 = dktX1_riskOf_5 := dk_seg dksX1_riskOf_4 24 rfl rfl
theorem dksX1_riskOf_6 : cX1_riskOf.data.toList.drop 140 = dktX1_riskOf_6 := dk_seg dksX1_riskOf_5 22 rfl rfl
theorem dksX1_riskOf_7 : cX1_riskOf.data.toList.drop 164 = dktX1_riskOf_7 := dk_seg dksX1_riskOf_6 24 rfl rfl
theorem dksX1_riskOf_8 : cX1_riskOf.data.toList.drop 188 = dktX1_riskOf_8 := dk_seg dksX1_riskOf_7 24 rfl rfl
theorem dX1_riskOf_0 : decode cX1_riskOf 0 = .ok (.aload_n 0, 1) := dk_42 (dk_at dksX1_riskOf_0 0 rfl rfl)
theorem dX1_riskOf_1 : decode cX1_riskOf 1 = .ok (.iload_n 1, 1) := dk_27 (dk_at dksX1_riskOf_0 1 rfl rfl)
theorem dX1_riskOf_2 : decode cX1_riskOf 2 = .ok (.iload_n 2, 1) := dk_28 (dk_at dksX1_riskOf_0 2 rfl rfl)
theorem dX1_riskOf_3 : decode cX1_riskOf 3 = .ok (.invokevirtual 289, 3) := dk_182 1 33 (dk_at dksX1_riskOf_0 3 rfl rfl)
theorem dX1_riskOf_6 : decode cX1_riskOf 6 = .ok (.istore_n 3, 1) := dk_62 (dk_at dksX1_riskOf_0 6 rfl rfl)
theorem dX1_riskOf_7 : decode cX1_riskOf 7 = .ok (.iload_n 3, 1) := dk_29 (dk_at dksX1_riskOf_0 7 rfl rfl)
theorem dX1_riskOf_8 : decode cX1_riskOf 8 = .ok (.ifCond .ne 7, 3) := dk_154 0 7 (dk_at dksX1_riskOf_0 8 rfl rfl)
theorem dX1_riskOf_11 : decode cX1_riskOf 11 = .ok (.iconst 4, 1) := dk_7 (dk_at dksX1_riskOf_0 11 rfl rfl)
theorem dX1_riskOf_12 : decode cX1_riskOf 12 = .ok (.goto 23, 3) := dk_167 0 23 (dk_at dksX1_riskOf_0 12 rfl rfl)
theorem dX1_riskOf_15 : decode cX1_riskOf 15 = .ok (.iload_n 3, 1) := dk_29 (dk_at dksX1_riskOf_0 15 rfl rfl)
theorem dX1_riskOf_16 : decode cX1_riskOf 16 = .ok (.iconst 1, 1) := dk_4 (dk_at dksX1_riskOf_0 16 rfl rfl)
theorem dX1_riskOf_17 : decode cX1_riskOf 17 = .ok (.if_icmp .ne 7, 3) := dk_160 0 7 (dk_at dksX1_riskOf_0 17 rfl rfl)
theorem dX1_riskOf_20 : decode cX1_riskOf 20 = .ok (.iconst 1, 1) := dk_4 (dk_at dksX1_riskOf_0 20 rfl rfl)
theorem dX1_riskOf_21 : decode cX1_riskOf 21 = .ok (.goto 14, 3) := dk_167 0 14 (dk_at dksX1_riskOf_0 21 rfl rfl)
theorem dX1_riskOf_24 : decode cX1_riskOf 24 = .ok (.iload_n 3, 1) := dk_29 (dk_at dksX1_riskOf_1 0 rfl rfl)
theorem dX1_riskOf_25 : decode cX1_riskOf 25 = .ok (.iconst 2, 1) := dk_5 (dk_at dksX1_riskOf_1 1 rfl rfl)
theorem dX1_riskOf_26 : decode cX1_riskOf 26 = .ok (.if_icmp .ne 7, 3) := dk_160 0 7 (dk_at dksX1_riskOf_1 2 rfl rfl)
theorem dX1_riskOf_29 : decode cX1_riskOf 29 = .ok (.iconst 3, 1) := dk_6 (dk_at dksX1_riskOf_1 5 rfl rfl)
theorem dX1_riskOf_30 : decode cX1_riskOf 30 = .ok (.goto 5, 3) := dk_167 0 5 (dk_at dksX1_riskOf_1 6 rfl rfl)
theorem dX1_riskOf_33 : decode cX1_riskOf 33 = .ok (.bipush 6, 2) := dk_16 6 (dk_at dksX1_riskOf_1 9 rfl rfl)
theorem dX1_riskOf_35 : decode cX1_riskOf 35 = .ok (.istore 4, 2) := dk_54 4 (dk_at dksX1_riskOf_1 11 rfl rfl)
theorem dX1_riskOf_37 : decode cX1_riskOf 37 = .ok (.iconst 0, 1) := dk_3 (dk_at dksX1_riskOf_1 13 rfl rfl)
theorem dX1_riskOf_38 : decode cX1_riskOf 38 = .ok (.istore 5, 2) := dk_54 5 (dk_at dksX1_riskOf_1 14 rfl rfl)
theorem dX1_riskOf_40 : decode cX1_riskOf 40 = .ok (.iload 5, 2) := dk_21 5 (dk_at dksX1_riskOf_1 16 rfl rfl)
theorem dX1_riskOf_42 : decode cX1_riskOf 42 = .ok (.aload_n 0, 1) := dk_42 (dk_at dksX1_riskOf_1 18 rfl rfl)
theorem dX1_riskOf_43 : decode cX1_riskOf 43 = .ok (.getfield 27, 3) := dk_180 0 27 (dk_at dksX1_riskOf_1 19 rfl rfl)
theorem dX1_riskOf_46 : decode cX1_riskOf 46 = .ok (.getfield 179, 3) := dk_180 0 179 (dk_at dksX1_riskOf_2 0 rfl rfl)
theorem dX1_riskOf_49 : decode cX1_riskOf 49 = .ok (.invokevirtual 80, 3) := dk_182 0 80 (dk_at dksX1_riskOf_2 3 rfl rfl)
theorem dX1_riskOf_52 : decode cX1_riskOf 52 = .ok (.if_icmp .ge 63, 3) := dk_162 0 63 (dk_at dksX1_riskOf_2 6 rfl rfl)
theorem dX1_riskOf_55 : decode cX1_riskOf 55 = .ok (.aload_n 0, 1) := dk_42 (dk_at dksX1_riskOf_2 9 rfl rfl)
theorem dX1_riskOf_56 : decode cX1_riskOf 56 = .ok (.getfield 27, 3) := dk_180 0 27 (dk_at dksX1_riskOf_2 10 rfl rfl)
theorem dX1_riskOf_59 : decode cX1_riskOf 59 = .ok (.getfield 179, 3) := dk_180 0 179 (dk_at dksX1_riskOf_2 13 rfl rfl)
theorem dX1_riskOf_62 : decode cX1_riskOf 62 = .ok (.iload 5, 2) := dk_21 5 (dk_at dksX1_riskOf_2 16 rfl rfl)
theorem dX1_riskOf_64 : decode cX1_riskOf 64 = .ok (.invokevirtual 85, 3) := dk_182 0 85 (dk_at dksX1_riskOf_2 18 rfl rfl)
theorem dX1_riskOf_67 : decode cX1_riskOf 67 = .ok (.checkcast 183, 3) := dk_192 0 183 (dk_at dksX1_riskOf_2 21 rfl rfl)
theorem dX1_riskOf_70 : decode cX1_riskOf 70 = .ok (.astore 6, 2) := dk_58 6 (dk_at dksX1_riskOf_3 0 rfl rfl)
theorem dX1_riskOf_72 : decode cX1_riskOf 72 = .ok (.aload 6, 2) := dk_25 6 (dk_at dksX1_riskOf_3 2 rfl rfl)
theorem dX1_riskOf_74 : decode cX1_riskOf 74 = .ok (.getfield 182, 3) := dk_180 0 182 (dk_at dksX1_riskOf_3 4 rfl rfl)
theorem dX1_riskOf_77 : decode cX1_riskOf 77 = .ok (.iload_n 1, 1) := dk_27 (dk_at dksX1_riskOf_3 7 rfl rfl)
theorem dX1_riskOf_78 : decode cX1_riskOf 78 = .ok (.if_icmp .ne 31, 3) := dk_160 0 31 (dk_at dksX1_riskOf_3 8 rfl rfl)
theorem dX1_riskOf_81 : decode cX1_riskOf 81 = .ok (.aload 6, 2) := dk_25 6 (dk_at dksX1_riskOf_3 11 rfl rfl)
theorem dX1_riskOf_83 : decode cX1_riskOf 83 = .ok (.invokevirtual 200, 3) := dk_182 0 200 (dk_at dksX1_riskOf_3 13 rfl rfl)
theorem dX1_riskOf_86 : decode cX1_riskOf 86 = .ok (.ifCond .eq 23, 3) := dk_153 0 23 (dk_at dksX1_riskOf_3 16 rfl rfl)
theorem dX1_riskOf_89 : decode cX1_riskOf 89 = .ok (.aload 6, 2) := dk_25 6 (dk_at dksX1_riskOf_3 19 rfl rfl)
theorem dX1_riskOf_91 : decode cX1_riskOf 91 = .ok (.getfield 204, 3) := dk_180 0 204 (dk_at dksX1_riskOf_3 21 rfl rfl)
theorem dX1_riskOf_94 : decode cX1_riskOf 94 = .ok (.ifCond .eq 15, 3) := dk_153 0 15 (dk_at dksX1_riskOf_4 0 rfl rfl)
theorem dX1_riskOf_97 : decode cX1_riskOf 97 = .ok (.aload 6, 2) := dk_25 6 (dk_at dksX1_riskOf_4 3 rfl rfl)
theorem dX1_riskOf_99 : decode cX1_riskOf 99 = .ok (.getfield 197, 3) := dk_180 0 197 (dk_at dksX1_riskOf_4 5 rfl rfl)
theorem dX1_riskOf_102 : decode cX1_riskOf 102 = .ok (.iload_n 2, 1) := dk_28 (dk_at dksX1_riskOf_4 8 rfl rfl)
theorem dX1_riskOf_103 : decode cX1_riskOf 103 = .ok (.if_icmp .gt 6, 3) := dk_163 0 6 (dk_at dksX1_riskOf_4 9 rfl rfl)
theorem dX1_riskOf_106 : decode cX1_riskOf 106 = .ok (.iinc 4 1, 3) := dk_132 4 1 (dk_at dksX1_riskOf_4 12 rfl rfl)
theorem dX1_riskOf_109 : decode cX1_riskOf 109 = .ok (.iinc 5 1, 3) := dk_132 5 1 (dk_at dksX1_riskOf_4 15 rfl rfl)
theorem dX1_riskOf_112 : decode cX1_riskOf 112 = .ok (.goto (-72), 3) := dk_167 255 184 (dk_at dksX1_riskOf_4 18 rfl rfl)
theorem dX1_riskOf_115 : decode cX1_riskOf 115 = .ok (.iconst 0, 1) := dk_3 (dk_at dksX1_riskOf_4 21 rfl rfl)
theorem dX1_riskOf_116 : decode cX1_riskOf 116 = .ok (.istore 5, 2) := dk_54 5 (dk_at dksX1_riskOf_4 22 rfl rfl)
theorem dX1_riskOf_118 : decode cX1_riskOf 118 = .ok (.iload 5, 2) := dk_21 5 (dk_at dksX1_riskOf_5 0 rfl rfl)
theorem dX1_riskOf_120 : decode cX1_riskOf 120 = .ok (.aload_n 0, 1) := dk_42 (dk_at dksX1_riskOf_5 2 rfl rfl)
theorem dX1_riskOf_121 : decode cX1_riskOf 121 = .ok (.getfield 20, 3) := dk_180 0 20 (dk_at dksX1_riskOf_5 3 rfl rfl)
theorem dX1_riskOf_124 : decode cX1_riskOf 124 = .ok (.getfield 117, 3) := dk_180 0 117 (dk_at dksX1_riskOf_5 6 rfl rfl)
theorem dX1_riskOf_127 : decode cX1_riskOf 127 = .ok (.invokevirtual 80, 3) := dk_182 0 80 (dk_at dksX1_riskOf_5 9 rfl rfl)
theorem dX1_riskOf_130 : decode cX1_riskOf 130 = .ok (.if_icmp .ge 67, 3) := dk_162 0 67 (dk_at dksX1_riskOf_5 12 rfl rfl)
theorem dX1_riskOf_133 : decode cX1_riskOf 133 = .ok (.iload 5, 2) := dk_21 5 (dk_at dksX1_riskOf_5 15 rfl rfl)
theorem dX1_riskOf_135 : decode cX1_riskOf 135 = .ok (.iload_n 1, 1) := dk_27 (dk_at dksX1_riskOf_5 17 rfl rfl)
theorem dX1_riskOf_136 : decode cX1_riskOf 136 = .ok (.if_icmp .eq 55, 3) := dk_159 0 55 (dk_at dksX1_riskOf_5 18 rfl rfl)
theorem dX1_riskOf_139 : decode cX1_riskOf 139 = .ok (.aload_n 0, 1) := dk_42 (dk_at dksX1_riskOf_5 21 rfl rfl)
theorem dX1_riskOf_140 : decode cX1_riskOf 140 = .ok (.getfield 20, 3) := dk_180 0 20 (dk_at dksX1_riskOf_6 0 rfl rfl)
theorem dX1_riskOf_143 : decode cX1_riskOf 143 = .ok (.getfield 117, 3) := dk_180 0 117 (dk_at dksX1_riskOf_6 3 rfl rfl)
theorem dX1_riskOf_146 : decode cX1_riskOf 146 = .ok (.iload 5, 2) := dk_21 5 (dk_at dksX1_riskOf_6 6 rfl rfl)
theorem dX1_riskOf_148 : decode cX1_riskOf 148 = .ok (.invokevirtual 85, 3) := dk_182 0 85 (dk_at dksX1_riskOf_6 8 rfl rfl)
theorem dX1_riskOf_151 : decode cX1_riskOf 151 = .ok (.checkcast 129, 3) := dk_192 0 129 (dk_at dksX1_riskOf_6 11 rfl rfl)
theorem dX1_riskOf_154 : decode cX1_riskOf 154 = .ok (.getfield 131, 3) := dk_180 0 131 (dk_at dksX1_riskOf_6 14 rfl rfl)
theorem dX1_riskOf_157 : decode cX1_riskOf 157 = .ok (.aload_n 0, 1) := dk_42 (dk_at dksX1_riskOf_6 17 rfl rfl)
theorem dX1_riskOf_158 : decode cX1_riskOf 158 = .ok (.getfield 20, 3) := dk_180 0 20 (dk_at dksX1_riskOf_6 18 rfl rfl)
theorem dX1_riskOf_161 : decode cX1_riskOf 161 = .ok (.getfield 117, 3) := dk_180 0 117 (dk_at dksX1_riskOf_6 21 rfl rfl)
theorem dX1_riskOf_164 : decode cX1_riskOf 164 = .ok (.iload_n 1, 1) := dk_27 (dk_at dksX1_riskOf_7 0 rfl rfl)
theorem dX1_riskOf_165 : decode cX1_riskOf 165 = .ok (.invokevirtual 85, 3) := dk_182 0 85 (dk_at dksX1_riskOf_7 1 rfl rfl)
theorem dX1_riskOf_168 : decode cX1_riskOf 168 = .ok (.checkcast 129, 3) := dk_192 0 129 (dk_at dksX1_riskOf_7 4 rfl rfl)
theorem dX1_riskOf_171 : decode cX1_riskOf 171 = .ok (.getfield 131, 3) := dk_180 0 131 (dk_at dksX1_riskOf_7 7 rfl rfl)
theorem dX1_riskOf_174 : decode cX1_riskOf 174 = .ok (.if_icmp .ne 17, 3) := dk_160 0 17 (dk_at dksX1_riskOf_7 10 rfl rfl)
theorem dX1_riskOf_177 : decode cX1_riskOf 177 = .ok (.aload_n 0, 1) := dk_42 (dk_at dksX1_riskOf_7 13 rfl rfl)
theorem dX1_riskOf_178 : decode cX1_riskOf 178 = .ok (.iload 5, 2) := dk_21 5 (dk_at dksX1_riskOf_7 14 rfl rfl)
theorem dX1_riskOf_180 : decode cX1_riskOf 180 = .ok (.iload_n 2, 1) := dk_28 (dk_at dksX1_riskOf_7 16 rfl rfl)
theorem dX1_riskOf_181 : decode cX1_riskOf 181 = .ok (.invokevirtual 289, 3) := dk_182 1 33 (dk_at dksX1_riskOf_7 17 rfl rfl)
theorem dX1_riskOf_184 : decode cX1_riskOf 184 = .ok (.iconst 3, 1) := dk_6 (dk_at dksX1_riskOf_7 20 rfl rfl)
theorem dX1_riskOf_185 : decode cX1_riskOf 185 = .ok (.if_icmp .ne 6, 3) := dk_160 0 6 (dk_at dksX1_riskOf_7 21 rfl rfl)
theorem dX1_riskOf_188 : decode cX1_riskOf 188 = .ok (.iinc 4 1, 3) := dk_132 4 1 (dk_at dksX1_riskOf_8 0 rfl rfl)
theorem dX1_riskOf_191 : decode cX1_riskOf 191 = .ok (.iinc 5 1, 3) := dk_132 5 1 (dk_at dksX1_riskOf_8 3 rfl rfl)
theorem dX1_riskOf_194 : decode cX1_riskOf 194 = .ok (.goto (-76), 3) := dk_167 255 180 (dk_at dksX1_riskOf_8 6 rfl rfl)
theorem dX1_riskOf_197 : decode cX1_riskOf 197 = .ok (.iload 4, 2) := dk_21 4 (dk_at dksX1_riskOf_8 9 rfl rfl)
theorem dX1_riskOf_199 : decode cX1_riskOf 199 = .ok (.ireturn, 1) := dk_172 (dk_at dksX1_riskOf_8 11 rfl rfl)
abbrev cX1_riskiestTrader : ByteArray := prog_1_method_59_code
def yX1_riskiestTrader : MethodName := ⟨RX1, "riskiestTrader", "(I)I"⟩
def dkwX1_riskiestTrader_2 : List UInt8 := [21, 4, 61, 21, 5, 62, 132, 4, 1, 167, 255, 217, 28, 172]
abbrev dktX1_riskiestTrader_2 : List UInt8 := dkwX1_riskiestTrader_2 ++ []
def dkwX1_riskiestTrader_1 : List UInt8 := [180, 0, 114, 162, 0, 33, 42, 21, 4, 27, 182, 1, 41, 54, 5, 21, 5, 29, 163, 0, 6, 167, 0, 9]
abbrev dktX1_riskiestTrader_1 : List UInt8 := dkwX1_riskiestTrader_1 ++ dktX1_riskiestTrader_2
def dkwX1_riskiestTrader_0 : List UInt8 := [27, 184, 0, 194, 154, 0, 5, 2, 172, 16, 254, 61, 2, 62, 3, 54, 4, 21, 4, 42, 180, 0, 20]
abbrev dktX1_riskiestTrader_0 : List UInt8 := dkwX1_riskiestTrader_0 ++ dktX1_riskiestTrader_1
theorem dksX1_riskiestTrader_0 : cX1_riskiestTrader.data.toList.drop 0 = dktX1_riskiestTrader_0 := by decide +kernel
theorem dksX1_riskiestTrader_1 : cX1_riskiestTrader.data.toList.drop 23 = dktX1_riskiestTrader_1 := dk_seg dksX1_riskiestTrader_0 23 rfl rfl
theorem dksX1_riskiestTrader_2 : cX1_riskiestTrader.data.toList.drop 47 = dktX1_riskiestTrader_2 := dk_seg dksX1_riskiestTrader_1 24 rfl rfl
theorem dX1_riskiestTrader_0 : decode cX1_riskiestTrader 0 = .ok (.iload_n 1, 1) := dk_27 (dk_at dksX1_riskiestTrader_0 0 rfl rfl)
theorem dX1_riskiestTrader_1 : decode cX1_riskiestTrader 1 = .ok (.invokestatic 194, 3) := dk_184 0 194 (dk_at dksX1_riskiestTrader_0 1 rfl rfl)
theorem dX1_riskiestTrader_4 : decode cX1_riskiestTrader 4 = .ok (.ifCond .ne 5, 3) := dk_154 0 5 (dk_at dksX1_riskiestTrader_0 4 rfl rfl)
theorem dX1_riskiestTrader_7 : decode cX1_riskiestTrader 7 = .ok (.iconst (-1), 1) := dk_2 (dk_at dksX1_riskiestTrader_0 7 rfl rfl)
theorem dX1_riskiestTrader_8 : decode cX1_riskiestTrader 8 = .ok (.ireturn, 1) := dk_172 (dk_at dksX1_riskiestTrader_0 8 rfl rfl)
theorem dX1_riskiestTrader_9 : decode cX1_riskiestTrader 9 = .ok (.bipush (-2), 2) := dk_16 254 (dk_at dksX1_riskiestTrader_0 9 rfl rfl)
theorem dX1_riskiestTrader_11 : decode cX1_riskiestTrader 11 = .ok (.istore_n 2, 1) := dk_61 (dk_at dksX1_riskiestTrader_0 11 rfl rfl)
theorem dX1_riskiestTrader_12 : decode cX1_riskiestTrader 12 = .ok (.iconst (-1), 1) := dk_2 (dk_at dksX1_riskiestTrader_0 12 rfl rfl)
theorem dX1_riskiestTrader_13 : decode cX1_riskiestTrader 13 = .ok (.istore_n 3, 1) := dk_62 (dk_at dksX1_riskiestTrader_0 13 rfl rfl)
theorem dX1_riskiestTrader_14 : decode cX1_riskiestTrader 14 = .ok (.iconst 0, 1) := dk_3 (dk_at dksX1_riskiestTrader_0 14 rfl rfl)
theorem dX1_riskiestTrader_15 : decode cX1_riskiestTrader 15 = .ok (.istore 4, 2) := dk_54 4 (dk_at dksX1_riskiestTrader_0 15 rfl rfl)
theorem dX1_riskiestTrader_17 : decode cX1_riskiestTrader 17 = .ok (.iload 4, 2) := dk_21 4 (dk_at dksX1_riskiestTrader_0 17 rfl rfl)
theorem dX1_riskiestTrader_19 : decode cX1_riskiestTrader 19 = .ok (.aload_n 0, 1) := dk_42 (dk_at dksX1_riskiestTrader_0 19 rfl rfl)
theorem dX1_riskiestTrader_20 : decode cX1_riskiestTrader 20 = .ok (.getfield 20, 3) := dk_180 0 20 (dk_at dksX1_riskiestTrader_0 20 rfl rfl)
theorem dX1_riskiestTrader_23 : decode cX1_riskiestTrader 23 = .ok (.getfield 114, 3) := dk_180 0 114 (dk_at dksX1_riskiestTrader_1 0 rfl rfl)
theorem dX1_riskiestTrader_26 : decode cX1_riskiestTrader 26 = .ok (.if_icmp .ge 33, 3) := dk_162 0 33 (dk_at dksX1_riskiestTrader_1 3 rfl rfl)
theorem dX1_riskiestTrader_29 : decode cX1_riskiestTrader 29 = .ok (.aload_n 0, 1) := dk_42 (dk_at dksX1_riskiestTrader_1 6 rfl rfl)
theorem dX1_riskiestTrader_30 : decode cX1_riskiestTrader 30 = .ok (.iload 4, 2) := dk_21 4 (dk_at dksX1_riskiestTrader_1 7 rfl rfl)
theorem dX1_riskiestTrader_32 : decode cX1_riskiestTrader 32 = .ok (.iload_n 1, 1) := dk_27 (dk_at dksX1_riskiestTrader_1 9 rfl rfl)
theorem dX1_riskiestTrader_33 : decode cX1_riskiestTrader 33 = .ok (.invokevirtual 297, 3) := dk_182 1 41 (dk_at dksX1_riskiestTrader_1 10 rfl rfl)
theorem dX1_riskiestTrader_36 : decode cX1_riskiestTrader 36 = .ok (.istore 5, 2) := dk_54 5 (dk_at dksX1_riskiestTrader_1 13 rfl rfl)
theorem dX1_riskiestTrader_38 : decode cX1_riskiestTrader 38 = .ok (.iload 5, 2) := dk_21 5 (dk_at dksX1_riskiestTrader_1 15 rfl rfl)
theorem dX1_riskiestTrader_40 : decode cX1_riskiestTrader 40 = .ok (.iload_n 3, 1) := dk_29 (dk_at dksX1_riskiestTrader_1 17 rfl rfl)
theorem dX1_riskiestTrader_41 : decode cX1_riskiestTrader 41 = .ok (.if_icmp .gt 6, 3) := dk_163 0 6 (dk_at dksX1_riskiestTrader_1 18 rfl rfl)
theorem dX1_riskiestTrader_44 : decode cX1_riskiestTrader 44 = .ok (.goto 9, 3) := dk_167 0 9 (dk_at dksX1_riskiestTrader_1 21 rfl rfl)
theorem dX1_riskiestTrader_47 : decode cX1_riskiestTrader 47 = .ok (.iload 4, 2) := dk_21 4 (dk_at dksX1_riskiestTrader_2 0 rfl rfl)
theorem dX1_riskiestTrader_49 : decode cX1_riskiestTrader 49 = .ok (.istore_n 2, 1) := dk_61 (dk_at dksX1_riskiestTrader_2 2 rfl rfl)
theorem dX1_riskiestTrader_50 : decode cX1_riskiestTrader 50 = .ok (.iload 5, 2) := dk_21 5 (dk_at dksX1_riskiestTrader_2 3 rfl rfl)
theorem dX1_riskiestTrader_52 : decode cX1_riskiestTrader 52 = .ok (.istore_n 3, 1) := dk_62 (dk_at dksX1_riskiestTrader_2 5 rfl rfl)
theorem dX1_riskiestTrader_53 : decode cX1_riskiestTrader 53 = .ok (.iinc 4 1, 3) := dk_132 4 1 (dk_at dksX1_riskiestTrader_2 6 rfl rfl)
theorem dX1_riskiestTrader_56 : decode cX1_riskiestTrader 56 = .ok (.goto (-39), 3) := dk_167 255 217 (dk_at dksX1_riskiestTrader_2 9 rfl rfl)
theorem dX1_riskiestTrader_59 : decode cX1_riskiestTrader 59 = .ok (.iload_n 2, 1) := dk_28 (dk_at dksX1_riskiestTrader_2 12 rfl rfl)
theorem dX1_riskiestTrader_60 : decode cX1_riskiestTrader 60 = .ok (.ireturn, 1) := dk_172 (dk_at dksX1_riskiestTrader_2 13 rfl rfl)
abbrev cX1_traderRisk : ByteArray := prog_1_method_58_code
def yX1_traderRisk : MethodName := ⟨RX1, "traderRisk", "(II)I"⟩
def dkwX1_traderRisk_2 : List UInt8 := [182, 1, 38, 96, 62, 132, 4, 1, 167, 255, 206, 29, 172]
abbrev dktX1_traderRisk_2 : List UInt8 := dkwX1_traderRisk_2 ++ []
def dkwX1_traderRisk_1 : List UInt8 := [180, 0, 117, 21, 4, 182, 0, 85, 192, 0, 129, 180, 0, 131, 27, 160, 0, 13, 29, 42, 21, 4, 28]
abbrev dktX1_traderRisk_1 : List UInt8 := dkwX1_traderRisk_1 ++ dktX1_traderRisk_2
def dkwX1_traderRisk_0 : List UInt8 := [3, 62, 3, 54, 4, 21, 4, 42, 180, 0, 20, 180, 0, 117, 182, 0, 80, 162, 0, 41, 42, 180, 0, 20]
abbrev dktX1_traderRisk_0 : List UInt8 := dkwX1_traderRisk_0 ++ dktX1_traderRisk_1
theorem dksX1_traderRisk_0 : cX1_traderRisk.data.toList.drop 0 = dktX1_traderRisk_0 := by decide +kernel
theorem dksX1_traderRisk_1 : cX1_traderRisk.data.toList.drop 24 = dktX1_traderRisk_1 := dk_seg dksX1_traderRisk_0 24 rfl rfl
theorem dksX1_traderRisk_2 : cX1_traderRisk.data.toList.drop 47 = dktX1_traderRisk_2 := dk_seg dksX1_traderRisk_1 23 rfl rfl
theorem dX1_traderRisk_0 : decode cX1_traderRisk 0 = .ok (.iconst 0, 1) := dk_3 (dk_at dksX1_traderRisk_0 0 rfl rfl)
theorem dX1_traderRisk_1 : decode cX1_traderRisk 1 = .ok (.istore_n 3, 1) := dk_62 (dk_at dksX1_traderRisk_0 1 rfl rfl)
theorem dX1_traderRisk_2 : decode cX1_traderRisk 2 = .ok (.iconst 0, 1) := dk_3 (dk_at dksX1_traderRisk_0 2 rfl rfl)
theorem dX1_traderRisk_3 : decode cX1_traderRisk 3 = .ok (.istore 4, 2) := dk_54 4 (dk_at dksX1_traderRisk_0 3 rfl rfl)
theorem dX1_traderRisk_5 : decode cX1_traderRisk 5 = .ok (.iload 4, 2) := dk_21 4 (dk_at dksX1_traderRisk_0 5 rfl rfl)
theorem dX1_traderRisk_7 : decode cX1_traderRisk 7 = .ok (.aload_n 0, 1) := dk_42 (dk_at dksX1_traderRisk_0 7 rfl rfl)
theorem dX1_traderRisk_8 : decode cX1_traderRisk 8 = .ok (.getfield 20, 3) := dk_180 0 20 (dk_at dksX1_traderRisk_0 8 rfl rfl)
theorem dX1_traderRisk_11 : decode cX1_traderRisk 11 = .ok (.getfield 117, 3) := dk_180 0 117 (dk_at dksX1_traderRisk_0 11 rfl rfl)
theorem dX1_traderRisk_14 : decode cX1_traderRisk 14 = .ok (.invokevirtual 80, 3) := dk_182 0 80 (dk_at dksX1_traderRisk_0 14 rfl rfl)
theorem dX1_traderRisk_17 : decode cX1_traderRisk 17 = .ok (.if_icmp .ge 41, 3) := dk_162 0 41 (dk_at dksX1_traderRisk_0 17 rfl rfl)
theorem dX1_traderRisk_20 : decode cX1_traderRisk 20 = .ok (.aload_n 0, 1) := dk_42 (dk_at dksX1_traderRisk_0 20 rfl rfl)
theorem dX1_traderRisk_21 : decode cX1_traderRisk 21 = .ok (.getfield 20, 3) := dk_180 0 20 (dk_at dksX1_traderRisk_0 21 rfl rfl)
theorem dX1_traderRisk_24 : decode cX1_traderRisk 24 = .ok (.getfield 117, 3) := dk_180 0 117 (dk_at dksX1_traderRisk_1 0 rfl rfl)
theorem dX1_traderRisk_27 : decode cX1_traderRisk 27 = .ok (.iload 4, 2) := dk_21 4 (dk_at dksX1_traderRisk_1 3 rfl rfl)
theorem dX1_traderRisk_29 : decode cX1_traderRisk 29 = .ok (.invokevirtual 85, 3) := dk_182 0 85 (dk_at dksX1_traderRisk_1 5 rfl rfl)
theorem dX1_traderRisk_32 : decode cX1_traderRisk 32 = .ok (.checkcast 129, 3) := dk_192 0 129 (dk_at dksX1_traderRisk_1 8 rfl rfl)
theorem dX1_traderRisk_35 : decode cX1_traderRisk 35 = .ok (.getfield 131, 3) := dk_180 0 131 (dk_at dksX1_traderRisk_1 11 rfl rfl)
theorem dX1_traderRisk_38 : decode cX1_traderRisk 38 = .ok (.iload_n 1, 1) := dk_27 (dk_at dksX1_traderRisk_1 14 rfl rfl)
theorem dX1_traderRisk_39 : decode cX1_traderRisk 39 = .ok (.if_icmp .ne 13, 3) := dk_160 0 13 (dk_at dksX1_traderRisk_1 15 rfl rfl)
theorem dX1_traderRisk_42 : decode cX1_traderRisk 42 = .ok (.iload_n 3, 1) := dk_29 (dk_at dksX1_traderRisk_1 18 rfl rfl)
theorem dX1_traderRisk_43 : decode cX1_traderRisk 43 = .ok (.aload_n 0, 1) := dk_42 (dk_at dksX1_traderRisk_1 19 rfl rfl)
theorem dX1_traderRisk_44 : decode cX1_traderRisk 44 = .ok (.iload 4, 2) := dk_21 4 (dk_at dksX1_traderRisk_1 20 rfl rfl)
theorem dX1_traderRisk_46 : decode cX1_traderRisk 46 = .ok (.iload_n 2, 1) := dk_28 (dk_at dksX1_traderRisk_1 22 rfl rfl)
theorem dX1_traderRisk_47 : decode cX1_traderRisk 47 = .ok (.invokevirtual 294, 3) := dk_182 1 38 (dk_at dksX1_traderRisk_2 0 rfl rfl)
theorem dX1_traderRisk_50 : decode cX1_traderRisk 50 = .ok (.iadd, 1) := dk_96 (dk_at dksX1_traderRisk_2 3 rfl rfl)
theorem dX1_traderRisk_51 : decode cX1_traderRisk 51 = .ok (.istore_n 3, 1) := dk_62 (dk_at dksX1_traderRisk_2 4 rfl rfl)
theorem dX1_traderRisk_52 : decode cX1_traderRisk 52 = .ok (.iinc 4 1, 3) := dk_132 4 1 (dk_at dksX1_traderRisk_2 5 rfl rfl)
theorem dX1_traderRisk_55 : decode cX1_traderRisk 55 = .ok (.goto (-50), 3) := dk_167 255 206 (dk_at dksX1_traderRisk_2 8 rfl rfl)
theorem dX1_traderRisk_58 : decode cX1_traderRisk 58 = .ok (.iload_n 3, 1) := dk_29 (dk_at dksX1_traderRisk_2 11 rfl rfl)
theorem dX1_traderRisk_59 : decode cX1_traderRisk 59 = .ok (.ireturn, 1) := dk_172 (dk_at dksX1_traderRisk_2 12 rfl rfl)
abbrev cX1_lot : ByteArray := prog_1_method_60_code
def yX1_lot : MethodName := ⟨RX1, "lot", "(III)I"⟩
def dkwX1_lot_8 : List UInt8 := [132, 9, 1, 167, 255, 173, 21, 8, 172]
abbrev dktX1_lot_8 : List UInt8 := dkwX1_lot_8 ++ []
def dkwX1_lot_7 : List UInt8 := [54, 10, 132, 8, 1, 167, 255, 233, 21, 5, 25, 4, 21, 8, 46, 100, 54, 5, 25, 4, 21, 8, 3, 79]
abbrev dktX1_lot_7 : List UInt8 := dkwX1_lot_7 ++ dktX1_lot_8
def dkwX1_lot_6 : List UInt8 := [136, 54, 10, 3, 54, 8, 21, 10, 25, 4, 21, 8, 46, 161, 0, 19, 21, 10, 25, 4, 21, 8, 46, 100]
abbrev dktX1_lot_6 : List UInt8 := dkwX1_lot_6 ++ dktX1_lot_7
def dkwX1_lot_5 : List UInt8 := [20, 1, 46, 105, 20, 1, 48, 97, 20, 1, 50, 113, 55, 6, 22, 6, 20, 1, 52, 109, 21, 5, 133, 113]
abbrev dktX1_lot_5 : List UInt8 := dkwX1_lot_5 ++ dktX1_lot_6
def dkwX1_lot_4 : List UInt8 := [167, 255, 216, 27, 133, 55, 6, 16, 254, 54, 8, 3, 54, 9, 21, 9, 28, 163, 0, 83, 22, 6]
abbrev dktX1_lot_4 : List UInt8 := dkwX1_lot_4 ++ dktX1_lot_5
def dkwX1_lot_3 : List UInt8 := [21, 6, 42, 21, 6, 29, 182, 1, 38, 79, 21, 5, 25, 4, 21, 6, 46, 96, 54, 5, 132, 6, 1]
abbrev dktX1_lot_3 : List UInt8 := dkwX1_lot_3 ++ dktX1_lot_4
def dkwX1_lot_2 : List UInt8 := [3, 54, 5, 3, 54, 6, 21, 6, 42, 180, 0, 20, 180, 0, 117, 182, 0, 80, 162, 0, 31, 25, 4]
abbrev dktX1_lot_2 : List UInt8 := dkwX1_lot_2 ++ dktX1_lot_3
def dkwX1_lot_1 : List UInt8 := [172, 28, 42, 180, 0, 20, 180, 0, 117, 182, 0, 80, 161, 0, 6, 16, 254, 172, 16, 24, 188, 10, 58, 4]
abbrev dktX1_lot_1 : List UInt8 := dkwX1_lot_1 ++ dktX1_lot_2
def dkwX1_lot_0 : List UInt8 := [27, 133, 9, 20, 1, 44, 184, 0, 56, 153, 0, 14, 28, 155, 0, 10, 29, 184, 0, 194, 154, 0, 5, 2]
abbrev dktX1_lot_0 : List UInt8 := dkwX1_lot_0 ++ dktX1_lot_1
theorem dksX1_lot_0 : cX1_lot.data.toList.drop 0 = dktX1_lot_0 := by decide +kernel
theorem dksX1_lot_1 : cX1_lot.data.toList.drop 24 = dktX1_lot_1 := dk_seg dksX1_lot_0 24 rfl rfl
theorem dksX1_lot_2 : cX1_lot.data.toList.drop 48 = dktX1_lot_2 := dk_seg dksX1_lot_1 24 rfl rfl
theorem dksX1_lot_3 : cX1_lot.data.toList.drop 71 = dktX1_lot_3 := dk_seg dksX1_lot_2 23 rfl rfl
theorem dksX1_lot_4 : cX1_lot.data.toList.drop 94 = dktX1_lot_4 := dk_seg dksX1_lot_3 23 rfl rfl
theorem dksX1_lot_5 : cX1_lot.data.toList.drop 116 = dktX1_lot_5 := dk_seg dksX1_lot_4 22 rfl rfl
theorem dksX1_lot_6 : cX1_lot.data.toList.drop 140 = dktX1_lot_6 := dk_seg dksX1_lot_5 24 rfl rfl
theorem dksX1_lot_7 : cX1_lot.data.toList.drop 164 = dktX1_lot_7 := dk_seg dksX1_lot_6 24 rfl rfl
theorem dksX1_lot_8 : cX1_lot.data.toList.drop 188 = dktX1_lot_8 := dk_seg dksX1_lot_7 24 rfl rfl
theorem dX1_lot_0 : decode cX1_lot 0 = .ok (.iload_n 1, 1) := dk_27 (dk_at dksX1_lot_0 0 rfl rfl)
theorem dX1_lot_1 : decode cX1_lot 1 = .ok (.i2l, 1) := dk_133 (dk_at dksX1_lot_0 1 rfl rfl)
theorem dX1_lot_2 : decode cX1_lot 2 = .ok (.lconst 0, 1) := dk_9 (dk_at dksX1_lot_0 2 rfl rfl)
theorem dX1_lot_3 : decode cX1_lot 3 = .ok (.ldc2_w 300, 3) := dk_20 1 44 (dk_at dksX1_lot_0 3 rfl rfl)
theorem dX1_lot_6 : decode cX1_lot 6 = .ok (.invokestatic 56, 3) := dk_184 0 56 (dk_at dksX1_lot_0 6 rfl rfl)
theorem dX1_lot_9 : decode cX1_lot 9 = .ok (.ifCond .eq 14, 3) := dk_153 0 14 (dk_at dksX1_lot_0 9 rfl rfl)
theorem dX1_lot_12 : decode cX1_lot 12 = .ok (.iload_n 2, 1) := dk_28 (dk_at dksX1_lot_0 12 rfl rfl)
theorem dX1_lot_13 : decode cX1_lot 13 = .ok (.ifCond .lt 10, 3) := dk_155 0 10 (dk_at dksX1_lot_0 13 rfl rfl)
theorem dX1_lot_16 : decode cX1_lot 16 = .ok (.iload_n 3, 1) := dk_29 (dk_at dksX1_lot_0 16 rfl rfl)
theorem dX1_lot_17 : decode cX1_lot 17 = .ok (.invokestatic 194, 3) := dk_184 0 194 (dk_at dksX1_lot_0 17 rfl rfl)
theorem dX1_lot_20 : decode cX1_lot 20 = .ok (.ifCond .ne 5, 3) := dk_154 0 5 (dk_at dksX1_lot_0 20 rfl rfl)
theorem dX1_lot_23 : decode cX1_lot 23 = .ok (.iconst (-1), 1) := dk_2 (dk_at dksX1_lot_0 23 rfl rfl)
theorem dX1_lot_24 : decode cX1_lot 24 = .ok (.ireturn, 1) := dk_172 (dk_at dksX1_lot_1 0 rfl rfl)
theorem dX1_lot_25 : decode cX1_lot 25 = .ok (.iload_n 2, 1) := dk_28 (dk_at dksX1_lot_1 1 rfl rfl)
theorem dX1_lot_26 : decode cX1_lot 26 = .ok (.aload_n 0, 1) := dk_42 (dk_at dksX1_lot_1 2 rfl rfl)
theorem dX1_lot_27 : decode cX1_lot 27 = .ok (.getfield 20, 3) := dk_180 0 20 (dk_at dksX1_lot_1 3 rfl rfl)
theorem dX1_lot_30 : decode cX1_lot 30 = .ok (.getfield 117, 3) := dk_180 0 117 (dk_at dksX1_lot_1 6 rfl rfl)
theorem dX1_lot_33 : decode cX1_lot 33 = .ok (.invokevirtual 80, 3) := dk_182 0 80 (dk_at dksX1_lot_1 9 rfl rfl)
theorem dX1_lot_36 : decode cX1_lot 36 = .ok (.if_icmp .lt 6, 3) := dk_161 0 6 (dk_at dksX1_lot_1 12 rfl rfl)
theorem dX1_lot_39 : decode cX1_lot 39 = .ok (.bipush (-2), 2) := dk_16 254 (dk_at dksX1_lot_1 15 rfl rfl)
theorem dX1_lot_41 : decode cX1_lot 41 = .ok (.ireturn, 1) := dk_172 (dk_at dksX1_lot_1 17 rfl rfl)
theorem dX1_lot_42 : decode cX1_lot 42 = .ok (.bipush 24, 2) := dk_16 24 (dk_at dksX1_lot_1 18 rfl rfl)
theorem dX1_lot_44 : decode cX1_lot 44 = .ok (.newarray .int, 2) := dk_188_10 (dk_at dksX1_lot_1 20 rfl rfl)
theorem dX1_lot_46 : decode cX1_lot 46 = .ok (.astore 4, 2) := dk_58 4 (dk_at dksX1_lot_1 22 rfl rfl)
theorem dX1_lot_48 : decode cX1_lot 48 = .ok (.iconst 0, 1) := dk_3 (dk_at dksX1_lot_2 0 rfl rfl)
theorem dX1_lot_49 : decode cX1_lot 49 = .ok (.istore 5, 2) := dk_54 5 (dk_at dksX1_lot_2 1 rfl rfl)
theorem dX1_lot_51 : decode cX1_lot 51 = .ok (.iconst 0, 1) := dk_3 (dk_at dksX1_lot_2 3 rfl rfl)
theorem dX1_lot_52 : decode cX1_lot 52 = .ok (.istore 6, 2) := dk_54 6 (dk_at dksX1_lot_2 4 rfl rfl)
theorem dX1_lot_54 : decode cX1_lot 54 = .ok (.iload 6, 2) := dk_21 6 (dk_at dksX1_lot_2 6 rfl rfl)
theorem dX1_lot_56 : decode cX1_lot 56 = .ok (.aload_n 0, 1) := dk_42 (dk_at dksX1_lot_2 8 rfl rfl)
theorem dX1_lot_57 : decode cX1_lot 57 = .ok (.getfield 20, 3) := dk_180 0 20 (dk_at dksX1_lot_2 9 rfl rfl)
theorem dX1_lot_60 : decode cX1_lot 60 = .ok (.getfield 117, 3) := dk_180 0 117 (dk_at dksX1_lot_2 12 rfl rfl)
theorem dX1_lot_63 : decode cX1_lot 63 = .ok (.invokevirtual 80, 3) := dk_182 0 80 (dk_at dksX1_lot_2 15 rfl rfl)
theorem dX1_lot_66 : decode cX1_lot 66 = .ok (.if_icmp .ge 31, 3) := dk_162 0 31 (dk_at dksX1_lot_2 18 rfl rfl)
theorem dX1_lot_69 : decode cX1_lot 69 = .ok (.aload 4, 2) := dk_25 4 (dk_at dksX1_lot_2 21 rfl rfl)
theorem dX1_lot_71 : decode cX1_lot 71 = .ok (.iload 6, 2) := dk_21 6 (dk_at dksX1_lot_3 0 rfl rfl)
theorem dX1_lot_73 : decode cX1_lot 73 = .ok (.aload_n 0, 1) := dk_42 (dk_at dksX1_lot_3 2 rfl rfl)
theorem dX1_lot_74 : decode cX1_lot 74 = .ok (.iload 6, 2) := dk_21 6 (dk_at dksX1_lot_3 3 rfl rfl)
theorem dX1_lot_76 : decode cX1_lot 76 = .ok (.iload_n 3, 1) := dk_29 (dk_at dksX1_lot_3 5 rfl rfl)
theorem dX1_lot_77 : decode cX1_lot 77 = .ok (.invokevirtual 294, 3) := dk_182 1 38 (dk_at dksX1_lot_3 6 rfl rfl)
theorem dX1_lot_80 : decode cX1_lot 80 = .ok (.iastore, 1) := dk_79 (dk_at dksX1_lot_3 9 rfl rfl)
theorem dX1_lot_81 : decode cX1_lot 81 = .ok (.iload 5, 2) := dk_21 5 (dk_at dksX1_lot_3 10 rfl rfl)
theorem dX1_lot_83 : decode cX1_lot 83 = .ok (.aload 4, 2) := dk_25 4 (dk_at dksX1_lot_3 12 rfl rfl)
theorem dX1_lot_85 : decode cX1_lot 85 = .ok (.iload 6, 2) := dk_21 6 (dk_at dksX1_lot_3 14 rfl rfl)
theorem dX1_lot_87 : decode cX1_lot 87 = .ok (.iaload, 1) := dk_46 (dk_at dksX1_lot_3 16 rfl rfl)
theorem dX1_lot_88 : decode cX1_lot 88 = .ok (.iadd, 1) := dk_96 (dk_at dksX1_lot_3 17 rfl rfl)
theorem dX1_lot_89 : decode cX1_lot 89 = .ok (.istore 5, 2) := dk_54 5 (dk_at dksX1_lot_3 18 rfl rfl)
theorem dX1_lot_91 : decode cX1_lot 91 = .ok (.iinc 6 1, 3) := dk_132 6 1 (dk_at dksX1_lot_3 20 rfl rfl)
theorem dX1_lot_94 : decode cX1_lot 94 = .ok (.goto (-40), 3) := dk_167 255 216 (dk_at dksX1_lot_4 0 rfl rfl)
theorem dX1_lot_97 : decode cX1_lot 97 = .ok (.iload_n 1, 1) := dk_27 (dk_at dksX1_lot_4 3 rfl rfl)
theorem dX1_lot_98 : decode cX1_lot 98 = .ok (.i2l, 1) := dk_133 (dk_at dksX1_lot_4 4 rfl rfl)
theorem dX1_lot_99 : decode cX1_lot 99 = .ok (.lstore 6, 2) := dk_55 6 (dk_at dksX1_lot_4 5 rfl rfl)
theorem dX1_lot_101 : decode cX1_lot 101 = .ok (.bipush (-2), 2) := dk_16 254 (dk_at dksX1_lot_4 7 rfl rfl)
theorem dX1_lot_103 : decode cX1_lot 103 = .ok (.istore 8, 2) := dk_54 8 (dk_at dksX1_lot_4 9 rfl rfl)
theorem dX1_lot_105 : decode cX1_lot 105 = .ok (.iconst 0, 1) := dk_3 (dk_at dksX1_lot_4 11 rfl rfl)
theorem dX1_lot_106 : decode cX1_lot 106 = .ok (.istore 9, 2) := dk_54 9 (dk_at dksX1_lot_4 12 rfl rfl)
theorem dX1_lot_108 : decode cX1_lot 108 = .ok (.iload 9, 2) := dk_21 9 (dk_at dksX1_lot_4 14 rfl rfl)
theorem dX1_lot_110 : decode cX1_lot 110 = .ok (.iload_n 2, 1) := dk_28 (dk_at dksX1_lot_4 16 rfl rfl)
theorem dX1_lot_111 : decode cX1_lot 111 = .ok (.if_icmp .gt 83, 3) := dk_163 0 83 (dk_at dksX1_lot_4 17 rfl rfl)
theorem dX1_lot_114 : decode cX1_lot 114 = .ok (.lload 6, 2) := dk_22 6 (dk_at dksX1_lot_4 20 rfl rfl)
theorem dX1_lot_116 : decode cX1_lot 116 = .ok (.ldc2_w 302, 3) := dk_20 1 46 (dk_at dksX1_lot_5 0 rfl rfl)
theorem dX1_lot_119 : decode cX1_lot 119 = .ok (.lmul, 1) := dk_105 (dk_at dksX1_lot_5 3 rfl rfl)
theorem dX1_lot_120 : decode cX1_lot 120 = .ok (.ldc2_w 304, 3) := dk_20 1 48 (dk_at dksX1_lot_5 4 rfl rfl)
theorem dX1_lot_123 : decode cX1_lot 123 = .ok (.ladd, 1) := dk_97 (dk_at dksX1_lot_5 7 rfl rfl)
theorem dX1_lot_124 : decode cX1_lot 124 = .ok (.ldc2_w 306, 3) := dk_20 1 50 (dk_at dksX1_lot_5 8 rfl rfl)
theorem dX1_lot_127 : decode cX1_lot 127 = .ok (.lrem, 1) := dk_113 (dk_at dksX1_lot_5 11 rfl rfl)
theorem dX1_lot_128 : decode cX1_lot 128 = .ok (.lstore 6, 2) := dk_55 6 (dk_at dksX1_lot_5 12 rfl rfl)
theorem dX1_lot_130 : decode cX1_lot 130 = .ok (.lload 6, 2) := dk_22 6 (dk_at dksX1_lot_5 14 rfl rfl)
theorem dX1_lot_132 : decode cX1_lot 132 = .ok (.ldc2_w 308, 3) := dk_20 1 52 (dk_at dksX1_lot_5 16 rfl rfl)
theorem dX1_lot_135 : decode cX1_lot 135 = .ok (.ldiv, 1) := dk_109 (dk_at dksX1_lot_5 19 rfl rfl)
theorem dX1_lot_136 : decode cX1_lot 136 = .ok (.iload 5, 2) := dk_21 5 (dk_at dksX1_lot_5 20 rfl rfl)
theorem dX1_lot_138 : decode cX1_lot 138 = .ok (.i2l, 1) := dk_133 (dk_at dksX1_lot_5 22 rfl rfl)
theorem dX1_lot_139 : decode cX1_lot 139 = .ok (.lrem, 1) := dk_113 (dk_at dksX1_lot_5 23 rfl rfl)
theorem dX1_lot_140 : decode cX1_lot 140 = .ok (.l2i, 1) := dk_136 (dk_at dksX1_lot_6 0 rfl rfl)
theorem dX1_lot_141 : decode cX1_lot 141 = .ok (.istore 10, 2) := dk_54 10 (dk_at dksX1_lot_6 1 rfl rfl)
theorem dX1_lot_143 : decode cX1_lot 143 = .ok (.iconst 0, 1) := dk_3 (dk_at dksX1_lot_6 3 rfl rfl)
theorem dX1_lot_144 : decode cX1_lot 144 = .ok (.istore 8, 2) := dk_54 8 (dk_at dksX1_lot_6 4 rfl rfl)
theorem dX1_lot_146 : decode cX1_lot 146 = .ok (.iload 10, 2) := dk_21 10 (dk_at dksX1_lot_6 6 rfl rfl)
theorem dX1_lot_148 : decode cX1_lot 148 = .ok (.aload 4, 2) := dk_25 4 (dk_at dksX1_lot_6 8 rfl rfl)
theorem dX1_lot_150 : decode cX1_lot 150 = .ok (.iload 8, 2) := dk_21 8 (dk_at dksX1_lot_6 10 rfl rfl)
theorem dX1_lot_152 : decode cX1_lot 152 = .ok (.iaload, 1) := dk_46 (dk_at dksX1_lot_6 12 rfl rfl)
theorem dX1_lot_153 : decode cX1_lot 153 = .ok (.if_icmp .lt 19, 3) := dk_161 0 19 (dk_at dksX1_lot_6 13 rfl rfl)
theorem dX1_lot_156 : decode cX1_lot 156 = .ok (.iload 10, 2) := dk_21 10 (dk_at dksX1_lot_6 16 rfl rfl)
theorem dX1_lot_158 : decode cX1_lot 158 = .ok (.aload 4, 2) := dk_25 4 (dk_at dksX1_lot_6 18 rfl rfl)
theorem dX1_lot_160 : decode cX1_lot 160 = .ok (.iload 8, 2) := dk_21 8 (dk_at dksX1_lot_6 20 rfl rfl)
theorem dX1_lot_162 : decode cX1_lot 162 = .ok (.iaload, 1) := dk_46 (dk_at dksX1_lot_6 22 rfl rfl)
theorem dX1_lot_163 : decode cX1_lot 163 = .ok (.isub, 1) := dk_100 (dk_at dksX1_lot_6 23 rfl rfl)
theorem dX1_lot_164 : decode cX1_lot 164 = .ok (.istore 10, 2) := dk_54 10 (dk_at dksX1_lot_7 0 rfl rfl)
theorem dX1_lot_166 : decode cX1_lot 166 = .ok (.iinc 8 1, 3) := dk_132 8 1 (dk_at dksX1_lot_7 2 rfl rfl)
theorem dX1_lot_169 : decode cX1_lot 169 = .ok (.goto (-23), 3) := dk_167 255 233 (dk_at dksX1_lot_7 5 rfl rfl)
theorem dX1_lot_172 : decode cX1_lot 172 = .ok (.iload 5, 2) := dk_21 5 (dk_at dksX1_lot_7 8 rfl rfl)
theorem dX1_lot_174 : decode cX1_lot 174 = .ok (.aload 4, 2) := dk_25 4 (dk_at dksX1_lot_7 10 rfl rfl)
theorem dX1_lot_176 : decode cX1_lot 176 = .ok (.iload 8, 2) := dk_21 8 (dk_at dksX1_lot_7 12 rfl rfl)
theorem dX1_lot_178 : decode cX1_lot 178 = .ok (.iaload, 1) := dk_46 (dk_at dksX1_lot_7 14 rfl rfl)
theorem dX1_lot_179 : decode cX1_lot 179 = .ok (.isub, 1) := dk_100 (dk_at dksX1_lot_7 15 rfl rfl)
theorem dX1_lot_180 : decode cX1_lot 180 = .ok (.istore 5, 2) := dk_54 5 (dk_at dksX1_lot_7 16 rfl rfl)
theorem dX1_lot_182 : decode cX1_lot 182 = .ok (.aload 4, 2) := dk_25 4 (dk_at dksX1_lot_7 18 rfl rfl)
theorem dX1_lot_184 : decode cX1_lot 184 = .ok (.iload 8, 2) := dk_21 8 (dk_at dksX1_lot_7 20 rfl rfl)
theorem dX1_lot_186 : decode cX1_lot 186 = .ok (.iconst 0, 1) := dk_3 (dk_at dksX1_lot_7 22 rfl rfl)
theorem dX1_lot_187 : decode cX1_lot 187 = .ok (.iastore, 1) := dk_79 (dk_at dksX1_lot_7 23 rfl rfl)
theorem dX1_lot_188 : decode cX1_lot 188 = .ok (.iinc 9 1, 3) := dk_132 9 1 (dk_at dksX1_lot_8 0 rfl rfl)
theorem dX1_lot_191 : decode cX1_lot 191 = .ok (.goto (-83), 3) := dk_167 255 173 (dk_at dksX1_lot_8 3 rfl rfl)
theorem dX1_lot_194 : decode cX1_lot 194 = .ok (.iload 8, 2) := dk_21 8 (dk_at dksX1_lot_8 6 rfl rfl)
theorem dX1_lot_196 : decode cX1_lot 196 = .ok (.ireturn, 1) := dk_172 (dk_at dksX1_lot_8 8 rfl rfl)
abbrev cX1_weightCount : ByteArray := prog_1_method_62_code
def yX1_weightCount : MethodName := ⟨RX1, "weightCount", "(I)I"⟩
def dkwX1_weightCount_1 : List UInt8 := [180, 0, 91, 167, 0, 4, 2, 172]
abbrev dktX1_weightCount_1 : List UInt8 := dkwX1_weightCount_1 ++ []
def dkwX1_weightCount_0 : List UInt8 := [42, 27, 182, 1, 54, 153, 0, 23, 42, 180, 0, 20, 180, 0, 77, 27, 182, 0, 85, 192, 0, 89]
abbrev dktX1_weightCount_0 : List UInt8 := dkwX1_weightCount_0 ++ dktX1_weightCount_1
theorem dksX1_weightCount_0 : cX1_weightCount.data.toList.drop 0 = dktX1_weightCount_0 := by decide +kernel
theorem dksX1_weightCount_1 : cX1_weightCount.data.toList.drop 22 = dktX1_weightCount_1 := dk_seg dksX1_weightCount_0 22 rfl rfl
theorem dX1_weightCount_0 : decode cX1_weightCount 0 = .ok (.aload_n 0, 1) := dk_42 (dk_at dksX1_weightCount_0 0 rfl rfl)
theorem dX1_weightCount_1 : decode cX1_weightCount 1 = .ok (.iload_n 1, 1) := dk_27 (dk_at dksX1_weightCount_0 1 rfl rfl)
theorem dX1_weightCount_2 : decode cX1_weightCount 2 = .ok (.invokevirtual 310, 3) := dk_182 1 54 (dk_at dksX1_weightCount_0 2 rfl rfl)
theorem dX1_weightCount_5 : decode cX1_weightCount 5 = .ok (.ifCond .eq 23, 3) := dk_153 0 23 (dk_at dksX1_weightCount_0 5 rfl rfl)
theorem dX1_weightCount_8 : decode cX1_weightCount 8 = .ok (.aload_n 0, 1) := dk_42 (dk_at dksX1_weightCount_0 8 rfl rfl)
theorem dX1_weightCount_9 : decode cX1_weightCount 9 = .ok (.getfield 20, 3) := dk_180 0 20 (dk_at dksX1_weightCount_0 9 rfl rfl)
theorem dX1_weightCount_12 : decode cX1_weightCount 12 = .ok (.getfield 77, 3) := dk_180 0 77 (dk_at dksX1_weightCount_0 12 rfl rfl)
theorem dX1_weightCount_15 : decode cX1_weightCount 15 = .ok (.iload_n 1, 1) := dk_27 (dk_at dksX1_weightCount_0 15 rfl rfl)
theorem dX1_weightCount_16 : decode cX1_weightCount 16 = .ok (.invokevirtual 85, 3) := dk_182 0 85 (dk_at dksX1_weightCount_0 16 rfl rfl)
theorem dX1_weightCount_19 : decode cX1_weightCount 19 = .ok (.checkcast 89, 3) := dk_192 0 89 (dk_at dksX1_weightCount_0 19 rfl rfl)
theorem dX1_weightCount_22 : decode cX1_weightCount 22 = .ok (.getfield 91, 3) := dk_180 0 91 (dk_at dksX1_weightCount_1 0 rfl rfl)
theorem dX1_weightCount_25 : decode cX1_weightCount 25 = .ok (.goto 4, 3) := dk_167 0 4 (dk_at dksX1_weightCount_1 3 rfl rfl)
theorem dX1_weightCount_28 : decode cX1_weightCount 28 = .ok (.iconst (-1), 1) := dk_2 (dk_at dksX1_weightCount_1 6 rfl rfl)
theorem dX1_weightCount_29 : decode cX1_weightCount 29 = .ok (.ireturn, 1) := dk_172 (dk_at dksX1_weightCount_1 7 rfl rfl)
abbrev cX1_isSet : ByteArray := prog_1_method_61_code
def yX1_isSet : MethodName := ⟨RX1, "isSet", "(I)Z"⟩
def dkwX1_isSet_0 : List UInt8 := [27, 133, 9, 42, 180, 0, 20, 180, 0, 77, 182, 0, 80, 4, 100, 133, 184, 0, 56, 172]
abbrev dktX1_isSet_0 : List UInt8 := dkwX1_isSet_0 ++ []
theorem dksX1_isSet_0 : cX1_isSet.data.toList.drop 0 = dktX1_isSet_0 := by decide +kernel
theorem dX1_isSet_0 : decode cX1_isSet 0 = .ok (.iload_n 1, 1) := dk_27 (dk_at dksX1_isSet_0 0 rfl rfl)
theorem dX1_isSet_1 : decode cX1_isSet 1 = .ok (.i2l, 1) := dk_133 (dk_at dksX1_isSet_0 1 rfl rfl)
theorem dX1_isSet_2 : decode cX1_isSet 2 = .ok (.lconst 0, 1) := dk_9 (dk_at dksX1_isSet_0 2 rfl rfl)
theorem dX1_isSet_3 : decode cX1_isSet 3 = .ok (.aload_n 0, 1) := dk_42 (dk_at dksX1_isSet_0 3 rfl rfl)
theorem dX1_isSet_4 : decode cX1_isSet 4 = .ok (.getfield 20, 3) := dk_180 0 20 (dk_at dksX1_isSet_0 4 rfl rfl)
theorem dX1_isSet_7 : decode cX1_isSet 7 = .ok (.getfield 77, 3) := dk_180 0 77 (dk_at dksX1_isSet_0 7 rfl rfl)
theorem dX1_isSet_10 : decode cX1_isSet 10 = .ok (.invokevirtual 80, 3) := dk_182 0 80 (dk_at dksX1_isSet_0 10 rfl rfl)
theorem dX1_isSet_13 : decode cX1_isSet 13 = .ok (.iconst 1, 1) := dk_4 (dk_at dksX1_isSet_0 13 rfl rfl)
theorem dX1_isSet_14 : decode cX1_isSet 14 = .ok (.isub, 1) := dk_100 (dk_at dksX1_isSet_0 14 rfl rfl)
theorem dX1_isSet_15 : decode cX1_isSet 15 = .ok (.i2l, 1) := dk_133 (dk_at dksX1_isSet_0 15 rfl rfl)
theorem dX1_isSet_16 : decode cX1_isSet 16 = .ok (.invokestatic 56, 3) := dk_184 0 56 (dk_at dksX1_isSet_0 16 rfl rfl)
theorem dX1_isSet_19 : decode cX1_isSet 19 = .ok (.ireturn, 1) := dk_172 (dk_at dksX1_isSet_0 19 rfl rfl)
abbrev cX1_weigh : ByteArray := prog_1_method_63_code
def yX1_weigh : MethodName := ⟨RX1, "weigh", "(IIII)I"⟩
def dkwX1_weigh_7 : List UInt8 := [182, 1, 68, 87, 25, 7, 182, 1, 63, 172]
abbrev dktX1_weigh_7 : List UInt8 := dkwX1_weigh_7 ++ []
def dkwX1_weigh_6 : List UInt8 := [16, 20, 164, 0, 6, 16, 253, 172, 42, 182, 0, 207, 42, 180, 0, 27, 180, 0, 84, 27, 25, 7]
abbrev dktX1_weigh_6 : List UInt8 := dkwX1_weigh_6 ++ dktX1_weigh_7
def dkwX1_weigh_5 : List UInt8 := [21, 4, 182, 1, 59, 58, 7, 25, 7, 182, 1, 63, 154, 0, 6, 16, 254, 172, 25, 7, 180, 1, 65]
abbrev dktX1_weigh_5 : List UInt8 := dkwX1_weigh_5 ++ dktX1_weigh_6
def dkwX1_weigh_4 : List UInt8 := [184, 0, 56, 154, 0, 5, 2, 172, 42, 180, 0, 27, 180, 0, 84, 27, 182, 0, 85, 192, 0, 109, 28, 29]
abbrev dktX1_weigh_4 : List UInt8 := dkwX1_weigh_4 ++ dktX1_weigh_5
def dkwX1_weigh_3 : List UInt8 := [29, 126, 154, 0, 27, 28, 184, 0, 154, 29, 184, 0, 154, 160, 0, 16, 21, 4, 133, 9, 20, 1, 57]
abbrev dktX1_weigh_3 : List UInt8 := dkwX1_weigh_3 ++ dktX1_weigh_4
def dkwX1_weigh_2 : List UInt8 := [133, 10, 21, 5, 133, 184, 0, 56, 153, 0, 7, 4, 167, 0, 4, 3, 54, 6, 21, 6, 153, 0, 33, 28]
abbrev dktX1_weigh_2 : List UInt8 := dkwX1_weigh_2 ++ dktX1_weigh_3
def dkwX1_weigh_1 : List UInt8 := [192, 0, 89, 180, 0, 91, 120, 4, 100, 54, 5, 28, 133, 10, 21, 5, 133, 184, 0, 56, 153, 0, 19, 29]
abbrev dktX1_weigh_1 : List UInt8 := dkwX1_weigh_1 ++ dktX1_weigh_2
def dkwX1_weigh_0 : List UInt8 := [42, 27, 182, 1, 54, 154, 0, 5, 2, 172, 4, 42, 180, 0, 20, 180, 0, 77, 27, 182, 0, 85]
abbrev dktX1_weigh_0 : List UInt8 := dkwX1_weigh_0 ++ dktX1_weigh_1
theorem dksX1_weigh_0 : cX1_weigh.data.toList.drop 0 = dktX1_weigh_0 := by decide +kernel
theorem dksX1_weigh_1 : cX1_weigh.data.toList.drop 22 = dktX1_weigh_1 := dk_seg dksX1_weigh_0 22 rfl rfl
theorem dksX1_weigh_2 : cX1_weigh.data.toList.drop 46 = dktX1_weigh_2 := dk_seg dksX1_weigh_1 24 rfl rfl
theorem dksX1_weigh_3 : cX1_weigh.data.toList.drop 70 = dktX1_weigh_3 := dk_seg dksX1_weigh_2 24 rfl rfl
theorem dksX1_weigh_4 : cX1_weigh.data.toList.drop 93 = dktX1_weigh_4 := dk_seg dksX1_weigh_3 23 rfl rfl
theorem dksX1_weigh_5 : cX1_weigh.data.toList.drop 117 = dktX1_weigh_5 := dk_seg dksX1_weigh_4 24 rfl rfl
theorem dksX1_weigh_6 : cX1_weigh.data.toList.drop 140 = dktX1_weigh_6 := dk_seg dksX1_weigh_5 23 rfl rfl
theorem dksX1_weigh_7 : cX1_weigh.data.toList.drop 162 = dktX1_weigh_7 := dk_seg dksX1_weigh_6 22 rfl rfl
theorem dX1_weigh_0 : decode cX1_weigh 0 = .ok (.aload_n 0, 1) := dk_42 (dk_at dksX1_weigh_0 0 rfl rfl)
theorem dX1_weigh_1 : decode cX1_weigh 1 = .ok (.iload_n 1, 1) := dk_27 (dk_at dksX1_weigh_0 1 rfl rfl)
theorem dX1_weigh_2 : decode cX1_weigh 2 = .ok (.invokevirtual 310, 3) := dk_182 1 54 (dk_at dksX1_weigh_0 2 rfl rfl)
theorem dX1_weigh_5 : decode cX1_weigh 5 = .ok (.ifCond .ne 5, 3) := dk_154 0 5 (dk_at dksX1_weigh_0 5 rfl rfl)
theorem dX1_weigh_8 : decode cX1_weigh 8 = .ok (.iconst (-1), 1) := dk_2 (dk_at dksX1_weigh_0 8 rfl rfl)
theorem dX1_weigh_9 : decode cX1_weigh 9 = .ok (.ireturn, 1) := dk_172 (dk_at dksX1_weigh_0 9 rfl rfl)
theorem dX1_weigh_10 : decode cX1_weigh 10 = .ok (.iconst 1, 1) := dk_4 (dk_at dksX1_weigh_0 10 rfl rfl)
theorem dX1_weigh_11 : decode cX1_weigh 11 = .ok (.aload_n 0, 1) := dk_42 (dk_at dksX1_weigh_0 11 rfl rfl)
theorem dX1_weigh_12 : decode cX1_weigh 12 = .ok (.getfield 20, 3) := dk_180 0 20 (dk_at dksX1_weigh_0 12 rfl rfl)
theorem dX1_weigh_15 : decode cX1_weigh 15 = .ok (.getfield 77, 3) := dk_180 0 77 (dk_at dksX1_weigh_0 15 rfl rfl)
theorem dX1_weigh_18 : decode cX1_weigh 18 = .ok (.iload_n 1, 1) := dk_27 (dk_at dksX1_weigh_0 18 rfl rfl)
theorem dX1_weigh_19 : decode cX1_weigh 19 = .ok (.invokevirtual 85, 3) := dk_182 0 85 (dk_at dksX1_weigh_0 19 rfl rfl)
theorem dX1_weigh_22 : decode cX1_weigh 22 = .ok (.checkcast 89, 3) := dk_192 0 89 (dk_at dksX1_weigh_1 0 rfl rfl)
theorem dX1_weigh_25 : decode cX1_weigh 25 = .ok (.getfield 91, 3) := dk_180 0 91 (dk_at dksX1_weigh_1 3 rfl rfl)
theorem dX1_weigh_28 : decode cX1_weigh 28 = .ok (.ishl, 1) := dk_120 (dk_at dksX1_weigh_1 6 rfl rfl)
theorem dX1_weigh_29 : decode cX1_weigh 29 = .ok (.iconst 1, 1) := dk_4 (dk_at dksX1_weigh_1 7 rfl rfl)
theorem dX1_weigh_30 : decode cX1_weigh 30 = .ok (.isub, 1) := dk_100 (dk_at dksX1_weigh_1 8 rfl rfl)
theorem dX1_weigh_31 : decode cX1_weigh 31 = .ok (.istore 5, 2) := dk_54 5 (dk_at dksX1_weigh_1 9 rfl rfl)
theorem dX1_weigh_33 : decode cX1_weigh 33 = .ok (.iload_n 2, 1) := dk_28 (dk_at dksX1_weigh_1 11 rfl rfl)
theorem dX1_weigh_34 : decode cX1_weigh 34 = .ok (.i2l, 1) := dk_133 (dk_at dksX1_weigh_1 12 rfl rfl)
theorem dX1_weigh_35 : decode cX1_weigh 35 = .ok (.lconst 1, 1) := dk_10 (dk_at dksX1_weigh_1 13 rfl rfl)
theorem dX1_weigh_36 : decode cX1_weigh 36 = .ok (.iload 5, 2) := dk_21 5 (dk_at dksX1_weigh_1 14 rfl rfl)
theorem dX1_weigh_38 : decode cX1_weigh 38 = .ok (.i2l, 1) := dk_133 (dk_at dksX1_weigh_1 16 rfl rfl)
theorem dX1_weigh_39 : decode cX1_weigh 39 = .ok (.invokestatic 56, 3) := dk_184 0 56 (dk_at dksX1_weigh_1 17 rfl rfl)
theorem dX1_weigh_42 : decode cX1_weigh 42 = .ok (.ifCond .eq 19, 3) := dk_153 0 19 (dk_at dksX1_weigh_1 20 rfl rfl)
theorem dX1_weigh_45 : decode cX1_weigh 45 = .ok (.iload_n 3, 1) := dk_29 (dk_at dksX1_weigh_1 23 rfl rfl)
theorem dX1_weigh_46 : decode cX1_weigh 46 = .ok (.i2l, 1) := dk_133 (dk_at dksX1_weigh_2 0 rfl rfl)
theorem dX1_weigh_47 : decode cX1_weigh 47 = .ok (.lconst 1, 1) := dk_10 (dk_at dksX1_weigh_2 1 rfl rfl)
theorem dX1_weigh_48 : decode cX1_weigh 48 = .ok (.iload 5, 2) := dk_21 5 (dk_at dksX1_weigh_2 2 rfl rfl)
theorem dX1_weigh_50 : decode cX1_weigh 50 = .ok (.i2l, 1) := dk_133 (dk_at dksX1_weigh_2 4 rfl rfl)
theorem dX1_weigh_51 : decode cX1_weigh 51 = .ok (.invokestatic 56, 3) := dk_184 0 56 (dk_at dksX1_weigh_2 5 rfl rfl)
theorem dX1_weigh_54 : decode cX1_weigh 54 = .ok (.ifCond .eq 7, 3) := dk_153 0 7 (dk_at dksX1_weigh_2 8 rfl rfl)
theorem dX1_weigh_57 : decode cX1_weigh 57 = .ok (.iconst 1, 1) := dk_4 (dk_at dksX1_weigh_2 11 rfl rfl)
theorem dX1_weigh_58 : decode cX1_weigh 58 = .ok (.goto 4, 3) := dk_167 0 4 (dk_at dksX1_weigh_2 12 rfl rfl)
theorem dX1_weigh_61 : decode cX1_weigh 61 = .ok (.iconst 0, 1) := dk_3 (dk_at dksX1_weigh_2 15 rfl rfl)
theorem dX1_weigh_62 : decode cX1_weigh 62 = .ok (.istore 6, 2) := dk_54 6 (dk_at dksX1_weigh_2 16 rfl rfl)
theorem dX1_weigh_64 : decode cX1_weigh 64 = .ok (.iload 6, 2) := dk_21 6 (dk_at dksX1_weigh_2 18 rfl rfl)
theorem dX1_weigh_66 : decode cX1_weigh 66 = .ok (.ifCond .eq 33, 3) := dk_153 0 33 (dk_at dksX1_weigh_2 20 rfl rfl)
theorem dX1_weigh_69 : decode cX1_weigh 69 = .ok (.iload_n 2, 1) := dk_28 (dk_at dksX1_weigh_2 23 rfl rfl)
theorem dX1_weigh_70 : decode cX1_weigh 70 = .ok (.iload_n 3, 1) := dk_29 (dk_at dksX1_weigh_3 0 rfl rfl)
theorem dX1_weigh_71 : decode cX1_weigh 71 = .ok (.iand, 1) := dk_126 (dk_at dksX1_weigh_3 1 rfl rfl)
theorem dX1_weigh_72 : decode cX1_weigh 72 = .ok (.ifCond .ne 27, 3) := dk_154 0 27 (dk_at dksX1_weigh_3 2 rfl rfl)
theorem dX1_weigh_75 : decode cX1_weigh 75 = .ok (.iload_n 2, 1) := dk_28 (dk_at dksX1_weigh_3 5 rfl rfl)
theorem dX1_weigh_76 : decode cX1_weigh 76 = .ok (.invokestatic 154, 3) := dk_184 0 154 (dk_at dksX1_weigh_3 6 rfl rfl)
theorem dX1_weigh_79 : decode cX1_weigh 79 = .ok (.iload_n 3, 1) := dk_29 (dk_at dksX1_weigh_3 9 rfl rfl)
theorem dX1_weigh_80 : decode cX1_weigh 80 = .ok (.invokestatic 154, 3) := dk_184 0 154 (dk_at dksX1_weigh_3 10 rfl rfl)
theorem dX1_weigh_83 : decode cX1_weigh 83 = .ok (.if_icmp .ne 16, 3) := dk_160 0 16 (dk_at dksX1_weigh_3 13 rfl rfl)
theorem dX1_weigh_86 : decode cX1_weigh 86 = .ok (.iload 4, 2) := dk_21 4 (dk_at dksX1_weigh_3 16 rfl rfl)
theorem dX1_weigh_88 : decode cX1_weigh 88 = .ok (.i2l, 1) := dk_133 (dk_at dksX1_weigh_3 18 rfl rfl)
theorem dX1_weigh_89 : decode cX1_weigh 89 = .ok (.lconst 0, 1) := dk_9 (dk_at dksX1_weigh_3 19 rfl rfl)
theorem dX1_weigh_90 : decode cX1_weigh 90 = .ok (.ldc2_w 313, 3) := dk_20 1 57 (dk_at dksX1_weigh_3 20 rfl rfl)
theorem dX1_weigh_93 : decode cX1_weigh 93 = .ok (.invokestatic 56, 3) := dk_184 0 56 (dk_at dksX1_weigh_4 0 rfl rfl)
theorem dX1_weigh_96 : decode cX1_weigh 96 = .ok (.ifCond .ne 5, 3) := dk_154 0 5 (dk_at dksX1_weigh_4 3 rfl rfl)
theorem dX1_weigh_99 : decode cX1_weigh 99 = .ok (.iconst (-1), 1) := dk_2 (dk_at dksX1_weigh_4 6 rfl rfl)
theorem dX1_weigh_100 : decode cX1_weigh 100 = .ok (.ireturn, 1) := dk_172 (dk_at dksX1_weigh_4 7 rfl rfl)
theorem dX1_weigh_101 : decode cX1_weigh 101 = .ok (.aload_n 0, 1) := dk_42 (dk_at dksX1_weigh_4 8 rfl rfl)
theorem dX1_weigh_102 : decode cX1_weigh 102 = .ok (.getfield 27, 3) := dk_180 0 27 (dk_at dksX1_weigh_4 9 rfl rfl)
theorem dX1_weigh_105 : decode cX1_weigh 105 = .ok (.getfield 84, 3) := dk_180 0 84 (dk_at dksX1_weigh_4 12 rfl rfl)
theorem dX1_weigh_108 : decode cX1_weigh 108 = .ok (.iload_n 1, 1) := dk_27 (dk_at dksX1_weigh_4 15 rfl rfl)
theorem dX1_weigh_109 : decode cX1_weigh 109 = .ok (.invokevirtual 85, 3) := dk_182 0 85 (dk_at dksX1_weigh_4 16 rfl rfl)
theorem dX1_weigh_112 : decode cX1_weigh 112 = .ok (.checkcast 109, 3) := dk_192 0 109 (dk_at dksX1_weigh_4 19 rfl rfl)
theorem dX1_weigh_115 : decode cX1_weigh 115 = .ok (.iload_n 2, 1) := dk_28 (dk_at dksX1_weigh_4 22 rfl rfl)
theorem dX1_weigh_116 : decode cX1_weigh 116 = .ok (.iload_n 3, 1) := dk_29 (dk_at dksX1_weigh_4 23 rfl rfl)
theorem dX1_weigh_117 : decode cX1_weigh 117 = .ok (.iload 4, 2) := dk_21 4 (dk_at dksX1_weigh_5 0 rfl rfl)
theorem dX1_weigh_119 : decode cX1_weigh 119 = .ok (.invokevirtual 315, 3) := dk_182 1 59 (dk_at dksX1_weigh_5 2 rfl rfl)
theorem dX1_weigh_122 : decode cX1_weigh 122 = .ok (.astore 7, 2) := dk_58 7 (dk_at dksX1_weigh_5 5 rfl rfl)
theorem dX1_weigh_124 : decode cX1_weigh 124 = .ok (.aload 7, 2) := dk_25 7 (dk_at dksX1_weigh_5 7 rfl rfl)
theorem dX1_weigh_126 : decode cX1_weigh 126 = .ok (.invokevirtual 319, 3) := dk_182 1 63 (dk_at dksX1_weigh_5 9 rfl rfl)
theorem dX1_weigh_129 : decode cX1_weigh 129 = .ok (.ifCond .ne 6, 3) := dk_154 0 6 (dk_at dksX1_weigh_5 12 rfl rfl)
theorem dX1_weigh_132 : decode cX1_weigh 132 = .ok (.bipush (-2), 2) := dk_16 254 (dk_at dksX1_weigh_5 15 rfl rfl)
theorem dX1_weigh_134 : decode cX1_weigh 134 = .ok (.ireturn, 1) := dk_172 (dk_at dksX1_weigh_5 17 rfl rfl)
theorem dX1_weigh_135 : decode cX1_weigh 135 = .ok (.aload 7, 2) := dk_25 7 (dk_at dksX1_weigh_5 18 rfl rfl)
theorem dX1_weigh_137 : decode cX1_weigh 137 = .ok (.getfield 321, 3) := dk_180 1 65 (dk_at dksX1_weigh_5 20 rfl rfl)
theorem dX1_weigh_140 : decode cX1_weigh 140 = .ok (.bipush 20, 2) := dk_16 20 (dk_at dksX1_weigh_6 0 rfl rfl)
theorem dX1_weigh_142 : decode cX1_weigh 142 = .ok (.if_icmp .le 6, 3) := dk_164 0 6 (dk_at dksX1_weigh_6 2 rfl rfl)
theorem dX1_weigh_145 : decode cX1_weigh 145 = .ok (.bipush (-3), 2) := dk_16 253 (dk_at dksX1_weigh_6 5 rfl rfl)
theorem dX1_weigh_147 : decode cX1_weigh 147 = .ok (.ireturn, 1) := dk_172 (dk_at dksX1_weigh_6 7 rfl rfl)
theorem dX1_weigh_148 : decode cX1_weigh 148 = .ok (.aload_n 0, 1) := dk_42 (dk_at dksX1_weigh_6 8 rfl rfl)
theorem dX1_weigh_149 : decode cX1_weigh 149 = .ok (.invokevirtual 207, 3) := dk_182 0 207 (dk_at dksX1_weigh_6 9 rfl rfl)
theorem dX1_weigh_152 : decode cX1_weigh 152 = .ok (.aload_n 0, 1) := dk_42 (dk_at dksX1_weigh_6 12 rfl rfl)
theorem dX1_weigh_153 : decode cX1_weigh 153 = .ok (.getfield 27, 3) := dk_180 0 27 (dk_at dksX1_weigh_6 13 rfl rfl)
theorem dX1_weigh_156 : decode cX1_weigh 156 = .ok (.getfield 84, 3) := dk_180 0 84 (dk_at dksX1_weigh_6 16 rfl rfl)
theorem dX1_weigh_159 : decode cX1_weigh 159 = .ok (.iload_n 1, 1) := dk_27 (dk_at dksX1_weigh_6 19 rfl rfl)
theorem dX1_weigh_160 : decode cX1_weigh 160 = .ok (.aload 7, 2) := dk_25 7 (dk_at dksX1_weigh_6 20 rfl rfl)
theorem dX1_weigh_162 : decode cX1_weigh 162 = .ok (.invokevirtual 324, 3) := dk_182 1 68 (dk_at dksX1_weigh_7 0 rfl rfl)
theorem dX1_weigh_165 : decode cX1_weigh 165 = .ok (.pop, 1) := dk_87 (dk_at dksX1_weigh_7 3 rfl rfl)
theorem dX1_weigh_166 : decode cX1_weigh 166 = .ok (.aload 7, 2) := dk_25 7 (dk_at dksX1_weigh_7 4 rfl rfl)
theorem dX1_weigh_168 : decode cX1_weigh 168 = .ok (.invokevirtual 319, 3) := dk_182 1 63 (dk_at dksX1_weigh_7 6 rfl rfl)
theorem dX1_weigh_171 : decode cX1_weigh 171 = .ok (.ireturn, 1) := dk_172 (dk_at dksX1_weigh_7 9 rfl rfl)
abbrev cX1_weighingCount : ByteArray := prog_1_method_64_code
def yX1_weighingCount : MethodName := ⟨RX1, "weighingCount", "(I)I"⟩
def dkwX1_weighingCount_1 : List UInt8 := [180, 1, 65, 167, 0, 4, 2, 172]
abbrev dktX1_weighingCount_1 : List UInt8 := dkwX1_weighingCount_1 ++ []
def dkwX1_weighingCount_0 : List UInt8 := [42, 27, 182, 1, 54, 153, 0, 23, 42, 180, 0, 27, 180, 0, 84, 27, 182, 0, 85, 192, 0, 109]
abbrev dktX1_weighingCount_0 : List UInt8 := dkwX1_weighingCount_0 ++ dktX1_weighingCount_1
theorem dksX1_weighingCount_0 : cX1_weighingCount.data.toList.drop 0 = dktX1_weighingCount_0 := by decide +kernel
theorem dksX1_weighingCount_1 : cX1_weighingCount.data.toList.drop 22 = dktX1_weighingCount_1 := dk_seg dksX1_weighingCount_0 22 rfl rfl
theorem dX1_weighingCount_0 : decode cX1_weighingCount 0 = .ok (.aload_n 0, 1) := dk_42 (dk_at dksX1_weighingCount_0 0 rfl rfl)
theorem dX1_weighingCount_1 : decode cX1_weighingCount 1 = .ok (.iload_n 1, 1) := dk_27 (dk_at dksX1_weighingCount_0 1 rfl rfl)
theorem dX1_weighingCount_2 : decode cX1_weighingCount 2 = .ok (.invokevirtual 310, 3) := dk_182 1 54 (dk_at dksX1_weighingCount_0 2 rfl rfl)
theorem dX1_weighingCount_5 : decode cX1_weighingCount 5 = .ok (.ifCond .eq 23, 3) := dk_153 0 23 (dk_at dksX1_weighingCount_0 5 rfl rfl)
theorem dX1_weighingCount_8 : decode cX1_weighingCount 8 = .ok (.aload_n 0, 1) := dk_42 (dk_at dksX1_weighingCount_0 8 rfl rfl)
theorem dX1_weighingCount_9 : decode cX1_weighingCount 9 = .ok (.getfield 27, 3) := dk_180 0 27 (dk_at dksX1_weighingCount_0 9 rfl rfl)
theorem dX1_weighingCount_12 : decode cX1_weighingCount 12 = .ok (.getfield 84, 3) := dk_180 0 84 (dk_at dksX1_weighingCount_0 12 rfl rfl)
theorem dX1_weighingCount_15 : decode cX1_weighingCount 15 = .ok (.iload_n 1, 1) := dk_27 (dk_at dksX1_weighingCount_0 15 rfl rfl)
theorem dX1_weighingCount_16 : decode cX1_weighingCount 16 = .ok (.invokevirtual 85, 3) := dk_182 0 85 (dk_at dksX1_weighingCount_0 16 rfl rfl)
theorem dX1_weighingCount_19 : decode cX1_weighingCount 19 = .ok (.checkcast 109, 3) := dk_192 0 109 (dk_at dksX1_weighingCount_0 19 rfl rfl)
theorem dX1_weighingCount_22 : decode cX1_weighingCount 22 = .ok (.getfield 321, 3) := dk_180 1 65 (dk_at dksX1_weighingCount_1 0 rfl rfl)
theorem dX1_weighingCount_25 : decode cX1_weighingCount 25 = .ok (.goto 4, 3) := dk_167 0 4 (dk_at dksX1_weighingCount_1 3 rfl rfl)
theorem dX1_weighingCount_28 : decode cX1_weighingCount 28 = .ok (.iconst (-1), 1) := dk_2 (dk_at dksX1_weighingCount_1 6 rfl rfl)
theorem dX1_weighingCount_29 : decode cX1_weighingCount 29 = .ok (.ireturn, 1) := dk_172 (dk_at dksX1_weighingCount_1 7 rfl rfl)
abbrev cX1_hypothesisCount : ByteArray := prog_1_method_65_code
def yX1_hypothesisCount : MethodName := ⟨RX1, "hypothesisCount", "(I)I"⟩
def dkwX1_hypothesisCount_1 : List UInt8 := [182, 1, 63, 167, 0, 4, 2, 172]
abbrev dktX1_hypothesisCount_1 : List UInt8 := dkwX1_hypothesisCount_1 ++ []
def dkwX1_hypothesisCount_0 : List UInt8 := [42, 27, 182, 1, 54, 153, 0, 23, 42, 180, 0, 27, 180, 0, 84, 27, 182, 0, 85, 192, 0, 109]
abbrev dktX1_hypothesisCount_0 : List UInt8 := dkwX1_hypothesisCount_0 ++ dktX1_hypothesisCount_1
theorem dksX1_hypothesisCount_0 : cX1_hypothesisCount.data.toList.drop 0 = dktX1_hypothesisCount_0 := by decide +kernel
theorem dksX1_hypothesisCount_1 : cX1_hypothesisCount.data.toList.drop 22 = dktX1_hypothesisCount_1 := dk_seg dksX1_hypothesisCount_0 22 rfl rfl
theorem dX1_hypothesisCount_0 : decode cX1_hypothesisCount 0 = .ok (.aload_n 0, 1) := dk_42 (dk_at dksX1_hypothesisCount_0 0 rfl rfl)
theorem dX1_hypothesisCount_1 : decode cX1_hypothesisCount 1 = .ok (.iload_n 1, 1) := dk_27 (dk_at dksX1_hypothesisCount_0 1 rfl rfl)
theorem dX1_hypothesisCount_2 : decode cX1_hypothesisCount 2 = .ok (.invokevirtual 310, 3) := dk_182 1 54 (dk_at dksX1_hypothesisCount_0 2 rfl rfl)
theorem dX1_hypothesisCount_5 : decode cX1_hypothesisCount 5 = .ok (.ifCond .eq 23, 3) := dk_153 0 23 (dk_at dksX1_hypothesisCount_0 5 rfl rfl)
theorem dX1_hypothesisCount_8 : decode cX1_hypothesisCount 8 = .ok (.aload_n 0, 1) := dk_42 (dk_at dksX1_hypothesisCount_0 8 rfl rfl)
theorem dX1_hypothesisCount_9 : decode cX1_hypothesisCount 9 = .ok (.getfield 27, 3) := dk_180 0 27 (dk_at dksX1_hypothesisCount_0 9 rfl rfl)
theorem dX1_hypothesisCount_12 : decode cX1_hypothesisCount 12 = .ok (.getfield 84, 3) := dk_180 0 84 (dk_at dksX1_hypothesisCount_0 12 rfl rfl)
theorem dX1_hypothesisCount_15 : decode cX1_hypothesisCount 15 = .ok (.iload_n 1, 1) := dk_27 (dk_at dksX1_hypothesisCount_0 15 rfl rfl)
theorem dX1_hypothesisCount_16 : decode cX1_hypothesisCount 16 = .ok (.invokevirtual 85, 3) := dk_182 0 85 (dk_at dksX1_hypothesisCount_0 16 rfl rfl)
theorem dX1_hypothesisCount_19 : decode cX1_hypothesisCount 19 = .ok (.checkcast 109, 3) := dk_192 0 109 (dk_at dksX1_hypothesisCount_0 19 rfl rfl)
theorem dX1_hypothesisCount_22 : decode cX1_hypothesisCount 22 = .ok (.invokevirtual 319, 3) := dk_182 1 63 (dk_at dksX1_hypothesisCount_1 0 rfl rfl)
theorem dX1_hypothesisCount_25 : decode cX1_hypothesisCount 25 = .ok (.goto 4, 3) := dk_167 0 4 (dk_at dksX1_hypothesisCount_1 3 rfl rfl)
theorem dX1_hypothesisCount_28 : decode cX1_hypothesisCount 28 = .ok (.iconst (-1), 1) := dk_2 (dk_at dksX1_hypothesisCount_1 6 rfl rfl)
theorem dX1_hypothesisCount_29 : decode cX1_hypothesisCount 29 = .ok (.ireturn, 1) := dk_172 (dk_at dksX1_hypothesisCount_1 7 rfl rfl)
abbrev cX1_heavySuspects : ByteArray := prog_1_method_66_code
def yX1_heavySuspects : MethodName := ⟨RX1, "heavySuspects", "(I)I"⟩
def dkwX1_heavySuspects_1 : List UInt8 := [180, 1, 72, 167, 0, 4, 2, 172]
abbrev dktX1_heavySuspects_1 : List UInt8 := dkwX1_heavySuspects_1 ++ []
def dkwX1_heavySuspects_0 : List UInt8 := [42, 27, 182, 1, 54, 153, 0, 23, 42, 180, 0, 27, 180, 0, 84, 27, 182, 0, 85, 192, 0, 109]
abbrev dktX1_heavySuspects_0 : List UInt8 := dkwX1_heavySuspects_0 ++ dktX1_heavySuspects_1
theorem dksX1_heavySuspects_0 : cX1_heavySuspects.data.toList.drop 0 = dktX1_heavySuspects_0 := by decide +kernel
theorem dksX1_heavySuspects_1 : cX1_heavySuspects.data.toList.drop 22 = dktX1_heavySuspects_1 := dk_seg dksX1_heavySuspects_0 22 rfl rfl
theorem dX1_heavySuspects_0 : decode cX1_heavySuspects 0 = .ok (.aload_n 0, 1) := dk_42 (dk_at dksX1_heavySuspects_0 0 rfl rfl)
theorem dX1_heavySuspects_1 : decode cX1_heavySuspects 1 = .ok (.iload_n 1, 1) := dk_27 (dk_at dksX1_heavySuspects_0 1 rfl rfl)
theorem dX1_heavySuspects_2 : decode cX1_heavySuspects 2 = .ok (.invokevirtual 310, 3) := dk_182 1 54 (dk_at dksX1_heavySuspects_0 2 rfl rfl)
theorem dX1_heavySuspects_5 : decode cX1_heavySuspects 5 = .ok (.ifCond .eq 23, 3) := dk_153 0 23 (dk_at dksX1_heavySuspects_0 5 rfl rfl)
theorem dX1_heavySuspects_8 : decode cX1_heavySuspects 8 = .ok (.aload_n 0, 1) := dk_42 (dk_at dksX1_heavySuspects_0 8 rfl rfl)
theorem dX1_heavySuspects_9 : decode cX1_heavySuspects 9 = .ok (.getfield 27, 3) := dk_180 0 27 (dk_at dksX1_heavySuspects_0 9 rfl rfl)
theorem dX1_heavySuspects_12 : decode cX1_heavySuspects 12 = .ok (.getfield 84, 3) := dk_180 0 84 (dk_at dksX1_heavySuspects_0 12 rfl rfl)
theorem dX1_heavySuspects_15 : decode cX1_heavySuspects 15 = .ok (.iload_n 1, 1) := dk_27 (dk_at dksX1_heavySuspects_0 15 rfl rfl)
theorem dX1_heavySuspects_16 : decode cX1_heavySuspects 16 = .ok (.invokevirtual 85, 3) := dk_182 0 85 (dk_at dksX1_heavySuspects_0 16 rfl rfl)
theorem dX1_heavySuspects_19 : decode cX1_heavySuspects 19 = .ok (.checkcast 109, 3) := dk_192 0 109 (dk_at dksX1_heavySuspects_0 19 rfl rfl)
theorem dX1_heavySuspects_22 : decode cX1_heavySuspects 22 = .ok (.getfield 328, 3) := dk_180 1 72 (dk_at dksX1_heavySuspects_1 0 rfl rfl)
theorem dX1_heavySuspects_25 : decode cX1_heavySuspects 25 = .ok (.goto 4, 3) := dk_167 0 4 (dk_at dksX1_heavySuspects_1 3 rfl rfl)
theorem dX1_heavySuspects_28 : decode cX1_heavySuspects 28 = .ok (.iconst (-1), 1) := dk_2 (dk_at dksX1_heavySuspects_1 6 rfl rfl)
theorem dX1_heavySuspects_29 : decode cX1_heavySuspects 29 = .ok (.ireturn, 1) := dk_172 (dk_at dksX1_heavySuspects_1 7 rfl rfl)
abbrev cX1_lightSuspects : ByteArray := prog_1_method_67_code
def yX1_lightSuspects : MethodName := ⟨RX1, "lightSuspects", "(I)I"⟩
def dkwX1_lightSuspects_1 : List UInt8 := [180, 1, 75, 167, 0, 4, 2, 172]
abbrev dktX1_lightSuspects_1 : List UInt8 := dkwX1_lightSuspects_1 ++ []
def dkwX1_lightSuspects_0 : List UInt8 := [42, 27, 182, 1, 54, 153, 0, 23, 42, 180, 0, 27, 180, 0, 84, 27, 182, 0, 85, 192, 0, 109]
abbrev dktX1_lightSuspects_0 : List UInt8 := dkwX1_lightSuspects_0 ++ dktX1_lightSuspects_1
theorem dksX1_lightSuspects_0 : cX1_lightSuspects.data.toList.drop 0 = dktX1_lightSuspects_0 := by decide +kernel
theorem dksX1_lightSuspects_1 : cX1_lightSuspects.data.toList.drop 22 = dktX1_lightSuspects_1 := dk_seg dksX1_lightSuspects_0 22 rfl rfl
theorem dX1_lightSuspects_0 : decode cX1_lightSuspects 0 = .ok (.aload_n 0, 1) := dk_42 (dk_at dksX1_lightSuspects_0 0 rfl rfl)
theorem dX1_lightSuspects_1 : decode cX1_lightSuspects 1 = .ok (.iload_n 1, 1) := dk_27 (dk_at dksX1_lightSuspects_0 1 rfl rfl)
theorem dX1_lightSuspects_2 : decode cX1_lightSuspects 2 = .ok (.invokevirtual 310, 3) := dk_182 1 54 (dk_at dksX1_lightSuspects_0 2 rfl rfl)
theorem dX1_lightSuspects_5 : decode cX1_lightSuspects 5 = .ok (.ifCond .eq 23, 3) := dk_153 0 23 (dk_at dksX1_lightSuspects_0 5 rfl rfl)
theorem dX1_lightSuspects_8 : decode cX1_lightSuspects 8 = .ok (.aload_n 0, 1) := dk_42 (dk_at dksX1_lightSuspects_0 8 rfl rfl)
theorem dX1_lightSuspects_9 : decode cX1_lightSuspects 9 = .ok (.getfield 27, 3) := dk_180 0 27 (dk_at dksX1_lightSuspects_0 9 rfl rfl)
theorem dX1_lightSuspects_12 : decode cX1_lightSuspects 12 = .ok (.getfield 84, 3) := dk_180 0 84 (dk_at dksX1_lightSuspects_0 12 rfl rfl)
theorem dX1_lightSuspects_15 : decode cX1_lightSuspects 15 = .ok (.iload_n 1, 1) := dk_27 (dk_at dksX1_lightSuspects_0 15 rfl rfl)
theorem dX1_lightSuspects_16 : decode cX1_lightSuspects 16 = .ok (.invokevirtual 85, 3) := dk_182 0 85 (dk_at dksX1_lightSuspects_0 16 rfl rfl)
theorem dX1_lightSuspects_19 : decode cX1_lightSuspects 19 = .ok (.checkcast 109, 3) := dk_192 0 109 (dk_at dksX1_lightSuspects_0 19 rfl rfl)
theorem dX1_lightSuspects_22 : decode cX1_lightSuspects 22 = .ok (.getfield 331, 3) := dk_180 1 75 (dk_at dksX1_lightSuspects_1 0 rfl rfl)
theorem dX1_lightSuspects_25 : decode cX1_lightSuspects 25 = .ok (.goto 4, 3) := dk_167 0 4 (dk_at dksX1_lightSuspects_1 3 rfl rfl)
theorem dX1_lightSuspects_28 : decode cX1_lightSuspects 28 = .ok (.iconst (-1), 1) := dk_2 (dk_at dksX1_lightSuspects_1 6 rfl rfl)
theorem dX1_lightSuspects_29 : decode cX1_lightSuspects 29 = .ok (.ireturn, 1) := dk_172 (dk_at dksX1_lightSuspects_1 7 rfl rfl)
abbrev cX1_canBeGenuine : ByteArray := prog_1_method_68_code
def yX1_canBeGenuine : MethodName := ⟨RX1, "canBeGenuine", "(I)I"⟩
def dkwX1_canBeGenuine_1 : List UInt8 := [180, 1, 78, 153, 0, 7, 4, 167, 0, 8, 3, 167, 0, 4, 2, 172]
abbrev dktX1_canBeGenuine_1 : List UInt8 := dkwX1_canBeGenuine_1 ++ []
def dkwX1_canBeGenuine_0 : List UInt8 := [42, 27, 182, 1, 54, 153, 0, 31, 42, 180, 0, 27, 180, 0, 84, 27, 182, 0, 85, 192, 0, 109]
abbrev dktX1_canBeGenuine_0 : List UInt8 := dkwX1_canBeGenuine_0 ++ dktX1_canBeGenuine_1
theorem dksX1_canBeGenuine_0 : cX1_canBeGenuine.data.toList.drop 0 = dktX1_canBeGenuine_0 := by decide +kernel
theorem dksX1_canBeGenuine_1 : cX1_canBeGenuine.data.toList.drop 22 = dktX1_canBeGenuine_1 := dk_seg dksX1_canBeGenuine_0 22 rfl rfl
theorem dX1_canBeGenuine_0 : decode cX1_canBeGenuine 0 = .ok (.aload_n 0, 1) := dk_42 (dk_at dksX1_canBeGenuine_0 0 rfl rfl)
theorem dX1_canBeGenuine_1 : decode cX1_canBeGenuine 1 = .ok (.iload_n 1, 1) := dk_27 (dk_at dksX1_canBeGenuine_0 1 rfl rfl)
theorem dX1_canBeGenuine_2 : decode cX1_canBeGenuine 2 = .ok (.invokevirtual 310, 3) := dk_182 1 54 (dk_at dksX1_canBeGenuine_0 2 rfl rfl)
theorem dX1_canBeGenuine_5 : decode cX1_canBeGenuine 5 = .ok (.ifCond .eq 31, 3) := dk_153 0 31 (dk_at dksX1_canBeGenuine_0 5 rfl rfl)
theorem dX1_canBeGenuine_8 : decode cX1_canBeGenuine 8 = .ok (.aload_n 0, 1) := dk_42 (dk_at dksX1_canBeGenuine_0 8 rfl rfl)
theorem dX1_canBeGenuine_9 : decode cX1_canBeGenuine 9 = .ok (.getfield 27, 3) := dk_180 0 27 (dk_at dksX1_canBeGenuine_0 9 rfl rfl)
theorem dX1_canBeGenuine_12 : decode cX1_canBeGenuine 12 = .ok (.getfield 84, 3) := dk_180 0 84 (dk_at dksX1_canBeGenuine_0 12 rfl rfl)
theorem dX1_canBeGenuine_15 : decode cX1_canBeGenuine 15 = .ok (.iload_n 1, 1) := dk_27 (dk_at dksX1_canBeGenuine_0 15 rfl rfl)
theorem dX1_canBeGenuine_16 : decode cX1_canBeGenuine 16 = .ok (.invokevirtual 85, 3) := dk_182 0 85 (dk_at dksX1_canBeGenuine_0 16 rfl rfl)
theorem dX1_canBeGenuine_19 : decode cX1_canBeGenuine 19 = .ok (.checkcast 109, 3) := dk_192 0 109 (dk_at dksX1_canBeGenuine_0 19 rfl rfl)
theorem dX1_canBeGenuine_22 : decode cX1_canBeGenuine 22 = .ok (.getfield 334, 3) := dk_180 1 78 (dk_at dksX1_canBeGenuine_1 0 rfl rfl)
theorem dX1_canBeGenuine_25 : decode cX1_canBeGenuine 25 = .ok (.ifCond .eq 7, 3) := dk_153 0 7 (dk_at dksX1_canBeGenuine_1 3 rfl rfl)
theorem dX1_canBeGenuine_28 : decode cX1_canBeGenuine 28 = .ok (.iconst 1, 1) := dk_4 (dk_at dksX1_canBeGenuine_1 6 rfl rfl)
theorem dX1_canBeGenuine_29 : decode cX1_canBeGenuine 29 = .ok (.goto 8, 3) := dk_167 0 8 (dk_at dksX1_canBeGenuine_1 7 rfl rfl)
theorem dX1_canBeGenuine_32 : decode cX1_canBeGenuine 32 = .ok (.iconst 0, 1) := dk_3 (dk_at dksX1_canBeGenuine_1 10 rfl rfl)
theorem dX1_canBeGenuine_33 : decode cX1_canBeGenuine 33 = .ok (.goto 4, 3) := dk_167 0 4 (dk_at dksX1_canBeGenuine_1 11 rfl rfl)
theorem dX1_canBeGenuine_36 : decode cX1_canBeGenuine 36 = .ok (.iconst (-1), 1) := dk_2 (dk_at dksX1_canBeGenuine_1 14 rfl rfl)
theorem dX1_canBeGenuine_37 : decode cX1_canBeGenuine 37 = .ok (.ireturn, 1) := dk_172 (dk_at dksX1_canBeGenuine_1 15 rfl rfl)
abbrev cX1_finding : ByteArray := prog_1_method_69_code
def yX1_finding : MethodName := ⟨RX1, "finding", "(I)I"⟩
def dkwX1_finding_3 : List UInt8 := [180, 1, 75, 184, 1, 81, 104, 96, 172]
abbrev dktX1_finding_3 : List UInt8 := dkwX1_finding_3 ++ []
def dkwX1_finding_2 : List UInt8 := [180, 1, 72, 153, 0, 17, 4, 5, 44, 180, 1, 72, 184, 1, 81, 104, 96, 167, 0, 14, 5, 5, 44]
abbrev dktX1_finding_2 : List UInt8 := dkwX1_finding_2 ++ dktX1_finding_3
def dkwX1_finding_1 : List UInt8 := [77, 44, 182, 1, 63, 4, 164, 0, 6, 16, 254, 172, 44, 180, 1, 78, 153, 0, 5, 3, 172, 44]
abbrev dktX1_finding_1 : List UInt8 := dkwX1_finding_1 ++ dktX1_finding_2
def dkwX1_finding_0 : List UInt8 := [42, 27, 182, 1, 54, 154, 0, 5, 2, 172, 42, 180, 0, 27, 180, 0, 84, 27, 182, 0, 85, 192, 0, 109]
abbrev dktX1_finding_0 : List UInt8 := dkwX1_finding_0 ++ dktX1_finding_1
theorem dksX1_finding_0 : cX1_finding.data.toList.drop 0 = dktX1_finding_0 := by decide +kernel
theorem dksX1_finding_1 : cX1_finding.data.toList.drop 24 = dktX1_finding_1 := dk_seg dksX1_finding_0 24 rfl rfl
theorem dksX1_finding_2 : cX1_finding.data.toList.drop 46 = dktX1_finding_2 := dk_seg dksX1_finding_1 22 rfl rfl
theorem dksX1_finding_3 : cX1_finding.data.toList.drop 69 = dktX1_finding_3 := dk_seg dksX1_finding_2 23 rfl rfl
theorem dX1_finding_0 : decode cX1_finding 0 = .ok (.aload_n 0, 1) := dk_42 (dk_at dksX1_finding_0 0 rfl rfl)
theorem dX1_finding_1 : decode cX1_finding 1 = .ok (.iload_n 1, 1) := dk_27 (dk_at dksX1_finding_0 1 rfl rfl)
theorem dX1_finding_2 : decode cX1_finding 2 = .ok (.invokevirtual 310, 3) := dk_182 1 54 (dk_at dksX1_finding_0 2 rfl rfl)
theorem dX1_finding_5 : decode cX1_finding 5 = .ok (.ifCond .ne 5, 3) := dk_154 0 5 (dk_at dksX1_finding_0 5 rfl rfl)
theorem dX1_finding_8 : decode cX1_finding 8 = .ok (.iconst (-1), 1) := dk_2 (dk_at dksX1_finding_0 8 rfl rfl)
theorem dX1_finding_9 : decode cX1_finding 9 = .ok (.ireturn, 1) := dk_172 (dk_at dksX1_finding_0 9 rfl rfl)
theorem dX1_finding_10 : decode cX1_finding 10 = .ok (.aload_n 0, 1) := dk_42 (dk_at dksX1_finding_0 10 rfl rfl)
theorem dX1_finding_11 : decode cX1_finding 11 = .ok (.getfield 27, 3) := dk_180 0 27 (dk_at dksX1_finding_0 11 rfl rfl)
theorem dX1_finding_14 : decode cX1_finding 14 = .ok (.getfield 84, 3) := dk_180 0 84 (dk_at dksX1_finding_0 14 rfl rfl)
theorem dX1_finding_17 : decode cX1_finding 17 = .ok (.iload_n 1, 1) := dk_27 (dk_at dksX1_finding_0 17 rfl rfl)
theorem dX1_finding_18 : decode cX1_finding 18 = .ok (.invokevirtual 85, 3) := dk_182 0 85 (dk_at dksX1_finding_0 18 rfl rfl)
theorem dX1_finding_21 : decode cX1_finding 21 = .ok (.checkcast 109, 3) := dk_192 0 109 (dk_at dksX1_finding_0 21 rfl rfl)
theorem dX1_finding_24 : decode cX1_finding 24 = .ok (.astore_n 2, 1) := dk_77 (dk_at dksX1_finding_1 0 rfl rfl)
theorem dX1_finding_25 : decode cX1_finding 25 = .ok (.aload_n 2, 1) := dk_44 (dk_at dksX1_finding_1 1 rfl rfl)
theorem dX1_finding_26 : decode cX1_finding 26 = .ok (.invokevirtual 319, 3) := dk_182 1 63 (dk_at dksX1_finding_1 2 rfl rfl)
theorem dX1_finding_29 : decode cX1_finding 29 = .ok (.iconst 1, 1) := dk_4 (dk_at dksX1_finding_1 5 rfl rfl)
theorem dX1_finding_30 : decode cX1_finding 30 = .ok (.if_icmp .le 6, 3) := dk_164 0 6 (dk_at dksX1_finding_1 6 rfl rfl)
theorem dX1_finding_33 : decode cX1_finding 33 = .ok (.bipush (-2), 2) := dk_16 254 (dk_at dksX1_finding_1 9 rfl rfl)
theorem dX1_finding_35 : decode cX1_finding 35 = .ok (.ireturn, 1) := dk_172 (dk_at dksX1_finding_1 11 rfl rfl)
theorem dX1_finding_36 : decode cX1_finding 36 = .ok (.aload_n 2, 1) := dk_44 (dk_at dksX1_finding_1 12 rfl rfl)
theorem dX1_finding_37 : decode cX1_finding 37 = .ok (.getfield 334, 3) := dk_180 1 78 (dk_at dksX1_finding_1 13 rfl rfl)
theorem dX1_finding_40 : decode cX1_finding 40 = .ok (.ifCond .eq 5, 3) := dk_153 0 5 (dk_at dksX1_finding_1 16 rfl rfl)
theorem dX1_finding_43 : decode cX1_finding 43 = .ok (.iconst 0, 1) := dk_3 (dk_at dksX1_finding_1 19 rfl rfl)
theorem dX1_finding_44 : decode cX1_finding 44 = .ok (.ireturn, 1) := dk_172 (dk_at dksX1_finding_1 20 rfl rfl)
theorem dX1_finding_45 : decode cX1_finding 45 = .ok (.aload_n 2, 1) := dk_44 (dk_at dksX1_finding_1 21 rfl rfl)
theorem dX1_finding_46 : decode cX1_finding 46 = .ok (.getfield 328, 3) := dk_180 1 72 (dk_at dksX1_finding_2 0 rfl rfl)
theorem dX1_finding_49 : decode cX1_finding 49 = .ok (.ifCond .eq 17, 3) := dk_153 0 17 (dk_at dksX1_finding_2 3 rfl rfl)
theorem dX1_finding_52 : decode cX1_finding 52 = .ok (.iconst 1, 1) := dk_4 (dk_at dksX1_finding_2 6 rfl rfl)
theorem dX1_finding_53 : decode cX1_finding 53 = .ok (.iconst 2, 1) := dk_5 (dk_at dksX1_finding_2 7 rfl rfl)
theorem dX1_finding_54 : decode cX1_finding 54 = .ok (.aload_n 2, 1) := dk_44 (dk_at dksX1_finding_2 8 rfl rfl)
theorem dX1_finding_55 : decode cX1_finding 55 = .ok (.getfield 328, 3) := dk_180 1 72 (dk_at dksX1_finding_2 9 rfl rfl)
theorem dX1_finding_58 : decode cX1_finding 58 = .ok (.invokestatic 337, 3) := dk_184 1 81 (dk_at dksX1_finding_2 12 rfl rfl)
theorem dX1_finding_61 : decode cX1_finding 61 = .ok (.imul, 1) := dk_104 (dk_at dksX1_finding_2 15 rfl rfl)
theorem dX1_finding_62 : decode cX1_finding 62 = .ok (.iadd, 1) := dk_96 (dk_at dksX1_finding_2 16 rfl rfl)
theorem dX1_finding_63 : decode cX1_finding 63 = .ok (.goto 14, 3) := dk_167 0 14 (dk_at dksX1_finding_2 17 rfl rfl)
theorem dX1_finding_66 : decode cX1_finding 66 = .ok (.iconst 2, 1) := dk_5 (dk_at dksX1_finding_2 20 rfl rfl)
theorem dX1_finding_67 : decode cX1_finding 67 = .ok (.iconst 2, 1) := dk_5 (dk_at dksX1_finding_2 21 rfl rfl)
theorem dX1_finding_68 : decode cX1_finding 68 = .ok (.aload_n 2, 1) := dk_44 (dk_at dksX1_finding_2 22 rfl rfl)
theorem dX1_finding_69 : decode cX1_finding 69 = .ok (.getfield 331, 3) := dk_180 1 75 (dk_at dksX1_finding_3 0 rfl rfl)
theorem dX1_finding_72 : decode cX1_finding 72 = .ok (.invokestatic 337, 3) := dk_184 1 81 (dk_at dksX1_finding_3 3 rfl rfl)
theorem dX1_finding_75 : decode cX1_finding 75 = .ok (.imul, 1) := dk_104 (dk_at dksX1_finding_3 6 rfl rfl)
theorem dX1_finding_76 : decode cX1_finding 76 = .ok (.iadd, 1) := dk_96 (dk_at dksX1_finding_3 7 rfl rfl)
theorem dX1_finding_77 : decode cX1_finding 77 = .ok (.ireturn, 1) := dk_172 (dk_at dksX1_finding_3 8 rfl rfl)

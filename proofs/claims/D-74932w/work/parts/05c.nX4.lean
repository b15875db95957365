set_option maxRecDepth 100000
abbrev cX4_heavySuspects : ByteArray := prog_21_method_83_code
def yX4_heavySuspects : MethodName := ⟨RX4, "heavySuspects", "(I)I"⟩
def dkwX4_heavySuspects_1 : List UInt8 := [167, 0, 4, 2, 172]
abbrev dktX4_heavySuspects_1 : List UInt8 := dkwX4_heavySuspects_1 ++ []
def dkwX4_heavySuspects_0 : List UInt8 := [42, 3, 181, 0, 1, 42, 27, 182, 1, 67, 153, 0, 16, 42, 180, 0, 13, 17, 2, 149, 27, 96, 46]
abbrev dktX4_heavySuspects_0 : List UInt8 := dkwX4_heavySuspects_0 ++ dktX4_heavySuspects_1
theorem dksX4_heavySuspects_0 : cX4_heavySuspects.data.toList.drop 0 = dktX4_heavySuspects_0 := by decide +kernel
theorem dksX4_heavySuspects_1 : cX4_heavySuspects.data.toList.drop 23 = dktX4_heavySuspects_1 := dk_seg dksX4_heavySuspects_0 23 rfl rfl
theorem dX4_heavySuspects_0 : decode cX4_heavySuspects 0 = .ok (.aload_n 0, 1) := dk_42 (dk_at dksX4_heavySuspects_0 0 rfl rfl)
theorem dX4_heavySuspects_1 : decode cX4_heavySuspects 1 = .ok (.iconst 0, 1) := dk_3 (dk_at dksX4_heavySuspects_0 1 rfl rfl)
theorem dX4_heavySuspects_2 : decode cX4_heavySuspects 2 = .ok (.putfield 1, 3) := dk_181 0 1 (dk_at dksX4_heavySuspects_0 2 rfl rfl)
theorem dX4_heavySuspects_5 : decode cX4_heavySuspects 5 = .ok (.aload_n 0, 1) := dk_42 (dk_at dksX4_heavySuspects_0 5 rfl rfl)
theorem dX4_heavySuspects_6 : decode cX4_heavySuspects 6 = .ok (.iload_n 1, 1) := dk_27 (dk_at dksX4_heavySuspects_0 6 rfl rfl)
theorem dX4_heavySuspects_7 : decode cX4_heavySuspects 7 = .ok (.invokevirtual 323, 3) := dk_182 1 67 (dk_at dksX4_heavySuspects_0 7 rfl rfl)
theorem dX4_heavySuspects_10 : decode cX4_heavySuspects 10 = .ok (.ifCond .eq 16, 3) := dk_153 0 16 (dk_at dksX4_heavySuspects_0 10 rfl rfl)
theorem dX4_heavySuspects_13 : decode cX4_heavySuspects 13 = .ok (.aload_n 0, 1) := dk_42 (dk_at dksX4_heavySuspects_0 13 rfl rfl)
theorem dX4_heavySuspects_14 : decode cX4_heavySuspects 14 = .ok (.getfield 13, 3) := dk_180 0 13 (dk_at dksX4_heavySuspects_0 14 rfl rfl)
theorem dX4_heavySuspects_17 : decode cX4_heavySuspects 17 = .ok (.sipush 661, 3) := dk_17 2 149 (dk_at dksX4_heavySuspects_0 17 rfl rfl)
theorem dX4_heavySuspects_20 : decode cX4_heavySuspects 20 = .ok (.iload_n 1, 1) := dk_27 (dk_at dksX4_heavySuspects_0 20 rfl rfl)
theorem dX4_heavySuspects_21 : decode cX4_heavySuspects 21 = .ok (.iadd, 1) := dk_96 (dk_at dksX4_heavySuspects_0 21 rfl rfl)
theorem dX4_heavySuspects_22 : decode cX4_heavySuspects 22 = .ok (.iaload, 1) := dk_46 (dk_at dksX4_heavySuspects_0 22 rfl rfl)
theorem dX4_heavySuspects_23 : decode cX4_heavySuspects 23 = .ok (.goto 4, 3) := dk_167 0 4 (dk_at dksX4_heavySuspects_1 0 rfl rfl)
theorem dX4_heavySuspects_26 : decode cX4_heavySuspects 26 = .ok (.iconst (-1), 1) := dk_2 (dk_at dksX4_heavySuspects_1 3 rfl rfl)
theorem dX4_heavySuspects_27 : decode cX4_heavySuspects 27 = .ok (.ireturn, 1) := dk_172 (dk_at dksX4_heavySuspects_1 4 rfl rfl)
abbrev cX4_lightSuspects : ByteArray := prog_21_method_84_code
def yX4_lightSuspects : MethodName := ⟨RX4, "lightSuspects", "(I)I"⟩
def dkwX4_lightSuspects_1 : List UInt8 := [167, 0, 4, 2, 172]
abbrev dktX4_lightSuspects_1 : List UInt8 := dkwX4_lightSuspects_1 ++ []
def dkwX4_lightSuspects_0 : List UInt8 := [42, 3, 181, 0, 1, 42, 27, 182, 1, 67, 153, 0, 16, 42, 180, 0, 13, 17, 2, 153, 27, 96, 46]
abbrev dktX4_lightSuspects_0 : List UInt8 := dkwX4_lightSuspects_0 ++ dktX4_lightSuspects_1
theorem dksX4_lightSuspects_0 : cX4_lightSuspects.data.toList.drop 0 = dktX4_lightSuspects_0 := by decide +kernel
theorem dksX4_lightSuspects_1 : cX4_lightSuspects.data.toList.drop 23 = dktX4_lightSuspects_1 := dk_seg dksX4_lightSuspects_0 23 rfl rfl
theorem dX4_lightSuspects_0 : decode cX4_lightSuspects 0 = .ok (.aload_n 0, 1) := dk_42 (dk_at dksX4_lightSuspects_0 0 rfl rfl)
theorem dX4_lightSuspects_1 : decode cX4_lightSuspects 1 = .ok (.iconst 0, 1) := dk_3 (dk_at dksX4_lightSuspects_0 1 rfl rfl)
theorem dX4_lightSuspects_2 : decode cX4_lightSuspects 2 = .ok (.putfield 1, 3) := dk_181 0 1 (dk_at dksX4_lightSuspects_0 2 rfl rfl)
theorem dX4_lightSuspects_5 : decode cX4_lightSuspects 5 = .ok (.aload_n 0, 1) := dk_42 (dk_at dksX4_lightSuspects_0 5 rfl rfl)
theorem dX4_lightSuspects_6 : decode cX4_lightSuspects 6 = .ok (.iload_n 1, 1) := dk_27 (dk_at dksX4_lightSuspects_0 6 rfl rfl)
theorem dX4_lightSuspects_7 : decode cX4_lightSuspects 7 = .ok (.invokevirtual 323, 3) := dk_182 1 67 (dk_at dksX4_lightSuspects_0 7 rfl rfl)
theorem dX4_lightSuspects_10 : decode cX4_lightSuspects 10 = .ok (.ifCond .eq 16, 3) := dk_153 0 16 (dk_at dksX4_lightSuspects_0 10 rfl rfl)
theorem dX4_lightSuspects_13 : decode cX4_lightSuspects 13 = .ok (.aload_n 0, 1) := dk_42 (dk_at dksX4_lightSuspects_0 13 rfl rfl)
theorem dX4_lightSuspects_14 : decode cX4_lightSuspects 14 = .ok (.getfield 13, 3) := dk_180 0 13 (dk_at dksX4_lightSuspects_0 14 rfl rfl)
theorem dX4_lightSuspects_17 : decode cX4_lightSuspects 17 = .ok (.sipush 665, 3) := dk_17 2 153 (dk_at dksX4_lightSuspects_0 17 rfl rfl)
theorem dX4_lightSuspects_20 : decode cX4_lightSuspects 20 = .ok (.iload_n 1, 1) := dk_27 (dk_at dksX4_lightSuspects_0 20 rfl rfl)
theorem dX4_lightSuspects_21 : decode cX4_lightSuspects 21 = .ok (.iadd, 1) := dk_96 (dk_at dksX4_lightSuspects_0 21 rfl rfl)
theorem dX4_lightSuspects_22 : decode cX4_lightSuspects 22 = .ok (.iaload, 1) := dk_46 (dk_at dksX4_lightSuspects_0 22 rfl rfl)
theorem dX4_lightSuspects_23 : decode cX4_lightSuspects 23 = .ok (.goto 4, 3) := dk_167 0 4 (dk_at dksX4_lightSuspects_1 0 rfl rfl)
theorem dX4_lightSuspects_26 : decode cX4_lightSuspects 26 = .ok (.iconst (-1), 1) := dk_2 (dk_at dksX4_lightSuspects_1 3 rfl rfl)
theorem dX4_lightSuspects_27 : decode cX4_lightSuspects 27 = .ok (.ireturn, 1) := dk_172 (dk_at dksX4_lightSuspects_1 4 rfl rfl)
abbrev cX4_canBeGenuine : ByteArray := prog_21_method_85_code
def yX4_canBeGenuine : MethodName := ⟨RX4, "canBeGenuine", "(I)I"⟩
def dkwX4_canBeGenuine_1 : List UInt8 := [167, 0, 4, 2, 172]
abbrev dktX4_canBeGenuine_1 : List UInt8 := dkwX4_canBeGenuine_1 ++ []
def dkwX4_canBeGenuine_0 : List UInt8 := [42, 3, 181, 0, 1, 42, 27, 182, 1, 67, 153, 0, 16, 42, 180, 0, 13, 17, 2, 157, 27, 96, 46]
abbrev dktX4_canBeGenuine_0 : List UInt8 := dkwX4_canBeGenuine_0 ++ dktX4_canBeGenuine_1
theorem dksX4_canBeGenuine_0 : cX4_canBeGenuine.data.toList.drop 0 = dktX4_canBeGenuine_0 := by decide +kernel
theorem dksX4_canBeGenuine_1 : cX4_canBeGenuine.data.toList.drop 23 = dktX4_canBeGenuine_1 := dk_seg dksX4_canBeGenuine_0 23 rfl rfl
theorem dX4_canBeGenuine_0 : decode cX4_canBeGenuine 0 = .ok (.aload_n 0, 1) := dk_42 (dk_at dksX4_canBeGenuine_0 0 rfl rfl)
theorem dX4_canBeGenuine_1 : decode cX4_canBeGenuine 1 = .ok (.iconst 0, 1) := dk_3 (dk_at dksX4_canBeGenuine_0 1 rfl rfl)
theorem dX4_canBeGenuine_2 : decode cX4_canBeGenuine 2 = .ok (.putfield 1, 3) := dk_181 0 1 (dk_at dksX4_canBeGenuine_0 2 rfl rfl)
theorem dX4_canBeGenuine_5 : decode cX4_canBeGenuine 5 = .ok (.aload_n 0, 1) := dk_42 (dk_at dksX4_canBeGenuine_0 5 rfl rfl)
theorem dX4_canBeGenuine_6 : decode cX4_canBeGenuine 6 = .ok (.iload_n 1, 1) := dk_27 (dk_at dksX4_canBeGenuine_0 6 rfl rfl)
theorem dX4_canBeGenuine_7 : decode cX4_canBeGenuine 7 = .ok (.invokevirtual 323, 3) := dk_182 1 67 (dk_at dksX4_canBeGenuine_0 7 rfl rfl)
theorem dX4_canBeGenuine_10 : decode cX4_canBeGenuine 10 = .ok (.ifCond .eq 16, 3) := dk_153 0 16 (dk_at dksX4_canBeGenuine_0 10 rfl rfl)
theorem dX4_canBeGenuine_13 : decode cX4_canBeGenuine 13 = .ok (.aload_n 0, 1) := dk_42 (dk_at dksX4_canBeGenuine_0 13 rfl rfl)
theorem dX4_canBeGenuine_14 : decode cX4_canBeGenuine 14 = .ok (.getfield 13, 3) := dk_180 0 13 (dk_at dksX4_canBeGenuine_0 14 rfl rfl)
theorem dX4_canBeGenuine_17 : decode cX4_canBeGenuine 17 = .ok (.sipush 669, 3) := dk_17 2 157 (dk_at dksX4_canBeGenuine_0 17 rfl rfl)
theorem dX4_canBeGenuine_20 : decode cX4_canBeGenuine 20 = .ok (.iload_n 1, 1) := dk_27 (dk_at dksX4_canBeGenuine_0 20 rfl rfl)
theorem dX4_canBeGenuine_21 : decode cX4_canBeGenuine 21 = .ok (.iadd, 1) := dk_96 (dk_at dksX4_canBeGenuine_0 21 rfl rfl)
theorem dX4_canBeGenuine_22 : decode cX4_canBeGenuine 22 = .ok (.iaload, 1) := dk_46 (dk_at dksX4_canBeGenuine_0 22 rfl rfl)
theorem dX4_canBeGenuine_23 : decode cX4_canBeGenuine 23 = .ok (.goto 4, 3) := dk_167 0 4 (dk_at dksX4_canBeGenuine_1 0 rfl rfl)
theorem dX4_canBeGenuine_26 : decode cX4_canBeGenuine 26 = .ok (.iconst (-1), 1) := dk_2 (dk_at dksX4_canBeGenuine_1 3 rfl rfl)
theorem dX4_canBeGenuine_27 : decode cX4_canBeGenuine 27 = .ok (.ireturn, 1) := dk_172 (dk_at dksX4_canBeGenuine_1 4 rfl rfl)
abbrev cX4_finding : ByteArray := prog_21_method_86_code
def yX4_finding : MethodName := ⟨RX4, "finding", "(I)I"⟩
def dkwX4_finding_3 : List UInt8 := [28, 120, 160, 0, 9, 5, 5, 28, 104, 96, 172, 132, 2, 1, 167, 255, 199, 3, 172]
abbrev dktX4_finding_3 : List UInt8 := dkwX4_finding_3 ++ []
def dkwX4_finding_2 : List UInt8 := [46, 4, 28, 120, 160, 0, 9, 4, 5, 28, 104, 96, 172, 42, 180, 0, 13, 17, 2, 153, 27, 96, 46, 4]
abbrev dktX4_finding_2 : List UInt8 := dkwX4_finding_2 ++ dktX4_finding_3
def dkwX4_finding_1 : List UInt8 := [16, 254, 172, 3, 61, 28, 42, 180, 0, 32, 27, 46, 162, 0, 53, 42, 180, 0, 13, 17, 2, 149, 27, 96]
abbrev dktX4_finding_1 : List UInt8 := dkwX4_finding_1 ++ dktX4_finding_2
def dkwX4_finding_0 : List UInt8 := [42, 3, 181, 0, 1, 42, 27, 182, 1, 67, 154, 0, 5, 2, 172, 42, 27, 182, 1, 72, 4, 164, 0, 6]
abbrev dktX4_finding_0 : List UInt8 := dkwX4_finding_0 ++ dktX4_finding_1
theorem dksX4_finding_0 : cX4_finding.data.toList.drop 0 = dktX4_finding_0 := by decide +kernel
theorem dksX4_finding_1 : cX4_finding.data.toList.drop 24 = dktX4_finding_1 := dk_seg dksX4_finding_0 24 rfl rfl
theorem dksX4_finding_2 : cX4_finding.data.toList.drop 48 = dktX4_finding_2 := dk_seg dksX4_finding_1 24 rfl rfl
theorem dksX4_finding_3 : cX4_finding.data.toList.drop 72 = dktX4_finding_3 := dk_seg dksX4_finding_2 24 rfl rfl
theorem dX4_finding_0 : decode cX4_finding 0 = .ok (.aload_n 0, 1) := dk_42 (dk_at dksX4_finding_0 0 rfl rfl)
theorem dX4_finding_1 : decode cX4_finding 1 = .ok (.iconst 0, 1) := dk_3 (dk_at dksX4_finding_0 1 rfl rfl)
theorem dX4_finding_2 : decode cX4_finding 2 = .ok (.putfield 1, 3) := dk_181 0 1 (dk_at dksX4_finding_0 2 rfl rfl)
theorem dX4_finding_5 : decode cX4_finding 5 = .ok (.aload_n 0, 1) := dk_42 (dk_at dksX4_finding_0 5 rfl rfl)
theorem dX4_finding_6 : decode cX4_finding 6 = .ok (.iload_n 1, 1) := dk_27 (dk_at dksX4_finding_0 6 rfl rfl)
theorem dX4_finding_7 : decode cX4_finding 7 = .ok (.invokevirtual 323, 3) := dk_182 1 67 (dk_at dksX4_finding_0 7 rfl rfl)
theorem dX4_finding_10 : decode cX4_finding 10 = .ok (.ifCond .ne 5, 3) := dk_154 0 5 (dk_at dksX4_finding_0 10 rfl rfl)
theorem dX4_finding_13 : decode cX4_finding 13 = .ok (.iconst (-1), 1) := dk_2 (dk_at dksX4_finding_0 13 rfl rfl)
theorem dX4_finding_14 : decode cX4_finding 14 = .ok (.ireturn, 1) := dk_172 (dk_at dksX4_finding_0 14 rfl rfl)
theorem dX4_finding_15 : decode cX4_finding 15 = .ok (.aload_n 0, 1) := dk_42 (dk_at dksX4_finding_0 15 rfl rfl)
theorem dX4_finding_16 : decode cX4_finding 16 = .ok (.iload_n 1, 1) := dk_27 (dk_at dksX4_finding_0 16 rfl rfl)
theorem dX4_finding_17 : decode cX4_finding 17 = .ok (.invokevirtual 328, 3) := dk_182 1 72 (dk_at dksX4_finding_0 17 rfl rfl)
theorem dX4_finding_20 : decode cX4_finding 20 = .ok (.iconst 1, 1) := dk_4 (dk_at dksX4_finding_0 20 rfl rfl)
theorem dX4_finding_21 : decode cX4_finding 21 = .ok (.if_icmp .le 6, 3) := dk_164 0 6 (dk_at dksX4_finding_0 21 rfl rfl)
theorem dX4_finding_24 : decode cX4_finding 24 = .ok (.bipush (-2), 2) := dk_16 254 (dk_at dksX4_finding_1 0 rfl rfl)
theorem dX4_finding_26 : decode cX4_finding 26 = .ok (.ireturn, 1) := dk_172 (dk_at dksX4_finding_1 2 rfl rfl)
theorem dX4_finding_27 : decode cX4_finding 27 = .ok (.iconst 0, 1) := dk_3 (dk_at dksX4_finding_1 3 rfl rfl)
theorem dX4_finding_28 : decode cX4_finding 28 = .ok (.istore_n 2, 1) := dk_61 (dk_at dksX4_finding_1 4 rfl rfl)
theorem dX4_finding_29 : decode cX4_finding 29 = .ok (.iload_n 2, 1) := dk_28 (dk_at dksX4_finding_1 5 rfl rfl)
theorem dX4_finding_30 : decode cX4_finding 30 = .ok (.aload_n 0, 1) := dk_42 (dk_at dksX4_finding_1 6 rfl rfl)
theorem dX4_finding_31 : decode cX4_finding 31 = .ok (.getfield 32, 3) := dk_180 0 32 (dk_at dksX4_finding_1 7 rfl rfl)
theorem dX4_finding_34 : decode cX4_finding 34 = .ok (.iload_n 1, 1) := dk_27 (dk_at dksX4_finding_1 10 rfl rfl)
theorem dX4_finding_35 : decode cX4_finding 35 = .ok (.iaload, 1) := dk_46 (dk_at dksX4_finding_1 11 rfl rfl)
theorem dX4_finding_36 : decode cX4_finding 36 = .ok (.if_icmp .ge 53, 3) := dk_162 0 53 (dk_at dksX4_finding_1 12 rfl rfl)
theorem dX4_finding_39 : decode cX4_finding 39 = .ok (.aload_n 0, 1) := dk_42 (dk_at dksX4_finding_1 15 rfl rfl)
theorem dX4_finding_40 : decode cX4_finding 40 = .ok (.getfield 13, 3) := dk_180 0 13 (dk_at dksX4_finding_1 16 rfl rfl)
theorem dX4_finding_43 : decode cX4_finding 43 = .ok (.sipush 661, 3) := dk_17 2 149 (dk_at dksX4_finding_1 19 rfl rfl)
theorem dX4_finding_46 : decode cX4_finding 46 = .ok (.iload_n 1, 1) := dk_27 (dk_at dksX4_finding_1 22 rfl rfl)
theorem dX4_finding_47 : decode cX4_finding 47 = .ok (.iadd, 1) := dk_96 (dk_at dksX4_finding_1 23 rfl rfl)
theorem dX4_finding_48 : decode cX4_finding 48 = .ok (.iaload, 1) := dk_46 (dk_at dksX4_finding_2 0 rfl rfl)
theorem dX4_finding_49 : decode cX4_finding 49 = .ok (.iconst 1, 1) := dk_4 (dk_at dksX4_finding_2 1 rfl rfl)
theorem dX4_finding_50 : decode cX4_finding 50 = .ok (.iload_n 2, 1) := dk_28 (dk_at dksX4_finding_2 2 rfl rfl)
theorem dX4_finding_51 : decode cX4_finding 51 = .ok (.ishl, 1) := dk_120 (dk_at dksX4_finding_2 3 rfl rfl)
theorem dX4_finding_52 : decode cX4_finding 52 = .ok (.if_icmp .ne 9, 3) := dk_160 0 9 (dk_at dksX4_finding_2 4 rfl rfl)
theorem dX4_finding_55 : decode cX4_finding 55 = .ok (.iconst 1, 1) := dk_4 (dk_at dksX4_finding_2 7 rfl rfl)
theorem dX4_finding_56 : decode cX4_finding 56 = .ok (.iconst 2, 1) := dk_5 (dk_at dksX4_finding_2 8 rfl rfl)
theorem dX4_finding_57 : decode cX4_finding 57 = .ok (.iload_n 2, 1) := dk_28 (dk_at dksX4_finding_2 9 rfl rfl)
theorem dX4_finding_58 : decode cX4_finding 58 = .ok (.imul, 1) := dk_104 (dk_at dksX4_finding_2 10 rfl rfl)
theorem dX4_finding_59 : decode cX4_finding 59 = .ok (.iadd, 1) := dk_96 (dk_at dksX4_finding_2 11 rfl rfl)
theorem dX4_finding_60 : decode cX4_finding 60 = .ok (.ireturn, 1) := dk_172 (dk_at dksX4_finding_2 12 rfl rfl)
theorem dX4_finding_61 : decode cX4_finding 61 = .ok (.aload_n 0, 1) := dk_42 (dk_at dksX4_finding_2 13 rfl rfl)
theorem dX4_finding_62 : decode cX4_finding 62 = .ok (.getfield 13, 3) := dk_180 0 13 (dk_at dksX4_finding_2 14 rfl rfl)
theorem dX4_finding_65 : decode cX4_finding 65 = .ok (.sipush 665, 3) := dk_17 2 153 (dk_at dksX4_finding_2 17 rfl rfl)
theorem dX4_finding_68 : decode cX4_finding 68 = .ok (.iload_n 1, 1) := dk_27 (dk_at dksX4_finding_2 20 rfl rfl)
theorem dX4_finding_69 : decode cX4_finding 69 = .ok (.iadd, 1) := dk_96 (dk_at dksX4_finding_2 21 rfl rfl)
theorem dX4_finding_70 : decode cX4_finding 70 = .ok (.iaload, 1) := dk_46 (dk_at dksX4_finding_2 22 rfl rfl)
theorem dX4_finding_71 : decode cX4_finding 71 = .ok (.iconst 1, 1) := dk_4 (dk_at dksX4_finding_2 23 rfl rfl)
theorem dX4_finding_72 : decode cX4_finding 72 = .ok (.iload_n 2, 1) := dk_28 (dk_at dksX4_finding_3 0 rfl rfl)
theorem dX4_finding_73 : decode cX4_finding 73 = .ok (.ishl, 1) := dk_120 (dk_at dksX4_finding_3 1 rfl rfl)
theorem dX4_finding_74 : decode cX4_finding 74 = .ok (.if_icmp .ne 9, 3) := dk_160 0 9 (dk_at dksX4_finding_3 2 rfl rfl)
theorem dX4_finding_77 : decode cX4_finding 77 = .ok (.iconst 2, 1) := dk_5 (dk_at dksX4_finding_3 5 rfl rfl)
theorem dX4_finding_78 : decode cX4_finding 78 = .ok (.iconst 2, 1) := dk_5 (dk_at dksX4_finding_3 6 rfl rfl)
theorem dX4_finding_79 : decode cX4_finding 79 = .ok (.iload_n 2, 1) := dk_28 (dk_at dksX4_finding_3 7 rfl rfl)
theorem dX4_finding_80 : decode cX4_finding 80 = .ok (.imul, 1) := dk_104 (dk_at dksX4_finding_3 8 rfl rfl)
theorem dX4_finding_81 : decode cX4_finding 81 = .ok (.iadd, 1) := dk_96 (dk_at dksX4_finding_3 9 rfl rfl)
theorem dX4_finding_82 : decode cX4_finding 82 = .ok (.ireturn, 1) := dk_172 (dk_at dksX4_finding_3 10 rfl rfl)
theorem dX4_finding_83 : decode cX4_finding 83 = .ok (.iinc 2 1, 3) := dk_132 2 1 (dk_at dksX4_finding_3 11 rfl rfl)
theorem dX4_finding_86 : decode cX4_finding 86 = .ok (.goto (-57), 3) := dk_167 255 199 (dk_at dksX4_finding_3 14 rfl rfl)
theorem dX4_finding_89 : decode cX4_finding 89 = .ok (.iconst 0, 1) := dk_3 (dk_at dksX4_finding_3 17 rfl rfl)
theorem dX4_finding_90 : decode cX4_finding 90 = .ok (.ireturn, 1) := dk_172 (dk_at dksX4_finding_3 18 rfl rfl)
abbrev cX4_weighingsNeeded : ByteArray := prog_21_method_88_code
def yX4_weighingsNeeded : MethodName := ⟨RX4, "weighingsNeeded", "(I)I"⟩
def dkwX4_weighingsNeeded_1 : List UInt8 := [161, 0, 8, 16, 254, 167, 0, 4, 28, 172]
abbrev dktX4_weighingsNeeded_1 : List UInt8 := dkwX4_weighingsNeeded_1 ++ []
def dkwX4_weighingsNeeded_0 : List UInt8 := [42, 3, 181, 0, 1, 42, 27, 182, 1, 67, 154, 0, 5, 2, 172, 42, 27, 182, 1, 81, 61, 28, 16, 99]
abbrev dktX4_weighingsNeeded_0 : List UInt8 := dkwX4_weighingsNeeded_0 ++ dktX4_weighingsNeeded_1
theorem dksX4_weighingsNeeded_0 : cX4_weighingsNeeded.data.toList.drop 0 = dktX4_weighingsNeeded_0 := by decide +kernel
theorem dksX4_weighingsNeeded_1 : cX4_weighingsNeeded.data.toList.drop 24 = dktX4_weighingsNeeded_1 := dk_seg dksX4_weighingsNeeded_0 24 rfl rfl
theorem dX4_weighingsNeeded_0 : decode cX4_weighingsNeeded 0 = .ok (.aload_n 0, 1) := dk_42 (dk_at dksX4_weighingsNeeded_0 0 rfl rfl)
theorem dX4_weighingsNeeded_1 : decode cX4_weighingsNeeded 1 = .ok (.iconst 0, 1) := dk_3 (dk_at dksX4_weighingsNeeded_0 1 rfl rfl)
theorem dX4_weighingsNeeded_2 : decode cX4_weighingsNeeded 2 = .ok (.putfield 1, 3) := dk_181 0 1 (dk_at dksX4_weighingsNeeded_0 2 rfl rfl)
theorem dX4_weighingsNeeded_5 : decode cX4_weighingsNeeded 5 = .ok (.aload_n 0, 1) := dk_42 (dk_at dksX4_weighingsNeeded_0 5 rfl rfl)
theorem dX4_weighingsNeeded_6 : decode cX4_weighingsNeeded 6 = .ok (.iload_n 1, 1) := dk_27 (dk_at dksX4_weighingsNeeded_0 6 rfl rfl)
theorem dX4_weighingsNeeded_7 : decode cX4_weighingsNeeded 7 = .ok (.invokevirtual 323, 3) := dk_182 1 67 (dk_at dksX4_weighingsNeeded_0 7 rfl rfl)
theorem dX4_weighingsNeeded_10 : decode cX4_weighingsNeeded 10 = .ok (.ifCond .ne 5, 3) := dk_154 0 5 (dk_at dksX4_weighingsNeeded_0 10 rfl rfl)
theorem dX4_weighingsNeeded_13 : decode cX4_weighingsNeeded 13 = .ok (.iconst (-1), 1) := dk_2 (dk_at dksX4_weighingsNeeded_0 13 rfl rfl)
theorem dX4_weighingsNeeded_14 : decode cX4_weighingsNeeded 14 = .ok (.ireturn, 1) := dk_172 (dk_at dksX4_weighingsNeeded_0 14 rfl rfl)
theorem dX4_weighingsNeeded_15 : decode cX4_weighingsNeeded 15 = .ok (.aload_n 0, 1) := dk_42 (dk_at dksX4_weighingsNeeded_0 15 rfl rfl)
theorem dX4_weighingsNeeded_16 : decode cX4_weighingsNeeded 16 = .ok (.iload_n 1, 1) := dk_27 (dk_at dksX4_weighingsNeeded_0 16 rfl rfl)
theorem dX4_weighingsNeeded_17 : decode cX4_weighingsNeeded 17 = .ok (.invokevirtual 337, 3) := dk_182 1 81 (dk_at dksX4_weighingsNeeded_0 17 rfl rfl)
theorem dX4_weighingsNeeded_20 : decode cX4_weighingsNeeded 20 = .ok (.istore_n 2, 1) := dk_61 (dk_at dksX4_weighingsNeeded_0 20 rfl rfl)
theorem dX4_weighingsNeeded_21 : decode cX4_weighingsNeeded 21 = .ok (.iload_n 2, 1) := dk_28 (dk_at dksX4_weighingsNeeded_0 21 rfl rfl)
theorem dX4_weighingsNeeded_22 : decode cX4_weighingsNeeded 22 = .ok (.bipush 99, 2) := dk_16 99 (dk_at dksX4_weighingsNeeded_0 22 rfl rfl)
theorem dX4_weighingsNeeded_24 : decode cX4_weighingsNeeded 24 = .ok (.if_icmp .lt 8, 3) := dk_161 0 8 (dk_at dksX4_weighingsNeeded_1 0 rfl rfl)
theorem dX4_weighingsNeeded_27 : decode cX4_weighingsNeeded 27 = .ok (.bipush (-2), 2) := dk_16 254 (dk_at dksX4_weighingsNeeded_1 3 rfl rfl)
theorem dX4_weighingsNeeded_29 : decode cX4_weighingsNeeded 29 = .ok (.goto 4, 3) := dk_167 0 4 (dk_at dksX4_weighingsNeeded_1 5 rfl rfl)
theorem dX4_weighingsNeeded_32 : decode cX4_weighingsNeeded 32 = .ok (.iload_n 2, 1) := dk_28 (dk_at dksX4_weighingsNeeded_1 8 rfl rfl)
theorem dX4_weighingsNeeded_33 : decode cX4_weighingsNeeded 33 = .ok (.ireturn, 1) := dk_172 (dk_at dksX4_weighingsNeeded_1 9 rfl rfl)
abbrev cX4_needed : ByteArray := prog_21_method_87_code
def yX4_needed : MethodName := ⟨RX4, "needed", "(I)I"⟩
def dkwX4_needed_1 : List UInt8 := [180, 0, 13, 17, 2, 153, 27, 96, 46, 42, 180, 0, 13, 17, 2, 157, 27, 96, 46, 182, 1, 78, 172]
abbrev dktX4_needed_1 : List UInt8 := dkwX4_needed_1 ++ []
def dkwX4_needed_0 : List UInt8 := [42, 42, 180, 0, 32, 27, 46, 182, 1, 75, 42, 42, 180, 0, 13, 17, 2, 149, 27, 96, 46, 42]
abbrev dktX4_needed_0 : List UInt8 := dkwX4_needed_0 ++ dktX4_needed_1
theorem dksX4_needed_0 : cX4_needed.data.toList.drop 0 = dktX4_needed_0 := by decide +kernel
theorem dksX4_needed_1 : cX4_needed.data.toList.drop 22 = dktX4_needed_1 := dk_seg dksX4_needed_0 22 rfl rfl
theorem dX4_needed_0 : decode cX4_needed 0 = .ok (.aload_n 0, 1) := dk_42 (dk_at dksX4_needed_0 0 rfl rfl)
theorem dX4_needed_1 : decode cX4_needed 1 = .ok (.aload_n 0, 1) := dk_42 (dk_at dksX4_needed_0 1 rfl rfl)
theorem dX4_needed_2 : decode cX4_needed 2 = .ok (.getfield 32, 3) := dk_180 0 32 (dk_at dksX4_needed_0 2 rfl rfl)
theorem dX4_needed_5 : decode cX4_needed 5 = .ok (.iload_n 1, 1) := dk_27 (dk_at dksX4_needed_0 5 rfl rfl)
theorem dX4_needed_6 : decode cX4_needed 6 = .ok (.iaload, 1) := dk_46 (dk_at dksX4_needed_0 6 rfl rfl)
theorem dX4_needed_7 : decode cX4_needed 7 = .ok (.invokevirtual 331, 3) := dk_182 1 75 (dk_at dksX4_needed_0 7 rfl rfl)
theorem dX4_needed_10 : decode cX4_needed 10 = .ok (.aload_n 0, 1) := dk_42 (dk_at dksX4_needed_0 10 rfl rfl)
theorem dX4_needed_11 : decode cX4_needed 11 = .ok (.aload_n 0, 1) := dk_42 (dk_at dksX4_needed_0 11 rfl rfl)
theorem dX4_needed_12 : decode cX4_needed 12 = .ok (.getfield 13, 3) := dk_180 0 13 (dk_at dksX4_needed_0 12 rfl rfl)
theorem dX4_needed_15 : decode cX4_needed 15 = .ok (.sipush 661, 3) := dk_17 2 149 (dk_at dksX4_needed_0 15 rfl rfl)
theorem dX4_needed_18 : decode cX4_needed 18 = .ok (.iload_n 1, 1) := dk_27 (dk_at dksX4_needed_0 18 rfl rfl)
theorem dX4_needed_19 : decode cX4_needed 19 = .ok (.iadd, 1) := dk_96 (dk_at dksX4_needed_0 19 rfl rfl)
theorem dX4_needed_20 : decode cX4_needed 20 = .ok (.iaload, 1) := dk_46 (dk_at dksX4_needed_0 20 rfl rfl)
theorem dX4_needed_21 : decode cX4_needed 21 = .ok (.aload_n 0, 1) := dk_42 (dk_at dksX4_needed_0 21 rfl rfl)
theorem dX4_needed_22 : decode cX4_needed 22 = .ok (.getfield 13, 3) := dk_180 0 13 (dk_at dksX4_needed_1 0 rfl rfl)
theorem dX4_needed_25 : decode cX4_needed 25 = .ok (.sipush 665, 3) := dk_17 2 153 (dk_at dksX4_needed_1 3 rfl rfl)
theorem dX4_needed_28 : decode cX4_needed 28 = .ok (.iload_n 1, 1) := dk_27 (dk_at dksX4_needed_1 6 rfl rfl)
theorem dX4_needed_29 : decode cX4_needed 29 = .ok (.iadd, 1) := dk_96 (dk_at dksX4_needed_1 7 rfl rfl)
theorem dX4_needed_30 : decode cX4_needed 30 = .ok (.iaload, 1) := dk_46 (dk_at dksX4_needed_1 8 rfl rfl)
theorem dX4_needed_31 : decode cX4_needed 31 = .ok (.aload_n 0, 1) := dk_42 (dk_at dksX4_needed_1 9 rfl rfl)
theorem dX4_needed_32 : decode cX4_needed 32 = .ok (.getfield 13, 3) := dk_180 0 13 (dk_at dksX4_needed_1 10 rfl rfl)
theorem dX4_needed_35 : decode cX4_needed 35 = .ok (.sipush 669, 3) := dk_17 2 157 (dk_at dksX4_needed_1 13 rfl rfl)
theorem dX4_needed_38 : decode cX4_needed 38 = .ok (.iload_n 1, 1) := dk_27 (dk_at dksX4_needed_1 16 rfl rfl)
theorem dX4_needed_39 : decode cX4_needed 39 = .ok (.iadd, 1) := dk_96 (dk_at dksX4_needed_1 17 rfl rfl)
theorem dX4_needed_40 : decode cX4_needed 40 = .ok (.iaload, 1) := dk_46 (dk_at dksX4_needed_1 18 rfl rfl)
theorem dX4_needed_41 : decode cX4_needed 41 = .ok (.invokevirtual 334, 3) := dk_182 1 78 (dk_at dksX4_needed_1 19 rfl rfl)
theorem dX4_needed_44 : decode cX4_needed 44 = .ok (.ireturn, 1) := dk_172 (dk_at dksX4_needed_1 22 rfl rfl)
abbrev cX4_lays : ByteArray := prog_21_method_73_code
def yX4_lays : MethodName := ⟨RX4, "lays", "(I)V"⟩
def dkwX4_lays_4 : List UInt8 := [132, 2, 1, 167, 255, 212, 177]
abbrev dktX4_lays_4 : List UInt8 := dkwX4_lays_4 ++ []
def dkwX4_lays_3 : List UInt8 := [182, 1, 55, 79, 42, 180, 0, 82, 5, 28, 104, 4, 96, 42, 28, 4, 27, 28, 100, 182, 1, 55, 79]
abbrev dktX4_lays_3 : List UInt8 := dkwX4_lays_3 ++ dktX4_lays_4
def dkwX4_lays_2 : List UInt8 := [167, 255, 211, 4, 61, 28, 27, 163, 0, 45, 42, 180, 0, 82, 5, 28, 104, 42, 28, 3, 27, 28, 100]
abbrev dktX4_lays_2 : List UInt8 := dkwX4_lays_2 ++ dktX4_lays_3
def dkwX4_lays_1 : List UInt8 := [29, 100, 42, 29, 28, 29, 100, 27, 28, 100, 182, 1, 51, 79, 132, 3, 1, 167, 255, 224, 132, 2, 1]
abbrev dktX4_lays_1 : List UInt8 := dkwX4_lays_1 ++ dktX4_lays_2
def dkwX4_lays_0 : List UInt8 := [5, 61, 28, 27, 163, 0, 46, 3, 62, 29, 28, 163, 0, 33, 42, 180, 0, 79, 16, 13, 29, 104, 28, 96]
abbrev dktX4_lays_0 : List UInt8 := dkwX4_lays_0 ++ dktX4_lays_1
theorem dksX4_lays_0 : cX4_lays.data.toList.drop 0 = dktX4_lays_0 := by decide +kernel
theorem dksX4_lays_1 : cX4_lays.data.toList.drop 24 = dktX4_lays_1 := dk_seg dksX4_lays_0 24 rfl rfl
theorem dksX4_lays_2 : cX4_lays.data.toList.drop 47 = dktX4_lays_2 := dk_seg dksX4_lays_1 23 rfl rfl
theorem dksX4_lays_3 : cX4_lays.data.toList.drop 70 = dktX4_lays_3 := dk_seg dksX4_lays_2 23 rfl rfl
theorem dksX4_lays_4 : cX4_lays.data.toList.drop 93 = dktX4_lays_4 := dk_seg dksX4_lays_3 23 rfl rfl
theorem dX4_lays_0 : decode cX4_lays 0 = .ok (.iconst 2, 1) := dk_5 (dk_at dksX4_lays_0 0 rfl rfl)
theorem dX4_lays_1 : decode cX4_lays 1 = .ok (.istore_n 2, 1) := dk_61 (dk_at dksX4_lays_0 1 rfl rfl)
theorem dX4_lays_2 : decode cX4_lays 2 = .ok (.iload_n 2, 1) := dk_28 (dk_at dksX4_lays_0 2 rfl rfl)
theorem dX4_lays_3 : decode cX4_lays 3 = .ok (.iload_n 1, 1) := dk_27 (dk_at dksX4_lays_0 3 rfl rfl)
theorem dX4_lays_4 : decode cX4_lays 4 = .ok (.if_icmp .gt 46, 3) := dk_163 0 46 (dk_at dksX4_lays_0 4 rfl rfl)
theorem dX4_lays_7 : decode cX4_lays 7 = .ok (.iconst 0, 1) := dk_3 (dk_at dksX4_lays_0 7 rfl rfl)
theorem dX4_lays_8 : decode cX4_lays 8 = .ok (.istore_n 3, 1) := dk_62 (dk_at dksX4_lays_0 8 rfl rfl)
theorem dX4_lays_9 : decode cX4_lays 9 = .ok (.iload_n 3, 1) := dk_29 (dk_at dksX4_lays_0 9 rfl rfl)
theorem dX4_lays_10 : decode cX4_lays 10 = .ok (.iload_n 2, 1) := dk_28 (dk_at dksX4_lays_0 10 rfl rfl)
theorem dX4_lays_11 : decode cX4_lays 11 = .ok (.if_icmp .gt 33, 3) := dk_163 0 33 (dk_at dksX4_lays_0 11 rfl rfl)
theorem dX4_lays_14 : decode cX4_lays 14 = .ok (.aload_n 0, 1) := dk_42 (dk_at dksX4_lays_0 14 rfl rfl)
theorem dX4_lays_15 : decode cX4_lays 15 = .ok (.getfield 79, 3) := dk_180 0 79 (dk_at dksX4_lays_0 15 rfl rfl)
theorem dX4_lays_18 : decode cX4_lays 18 = .ok (.bipush 13, 2) := dk_16 13 (dk_at dksX4_lays_0 18 rfl rfl)
theorem dX4_lays_20 : decode cX4_lays 20 = .ok (.iload_n 3, 1) := dk_29 (dk_at dksX4_lays_0 20 rfl rfl)
theorem dX4_lays_21 : decode cX4_lays 21 = .ok (.imul, 1) := dk_104 (dk_at dksX4_lays_0 21 rfl rfl)
theorem dX4_lays_22 : decode cX4_lays 22 = .ok (.iload_n 2, 1) := dk_28 (dk_at dksX4_lays_0 22 rfl rfl)
theorem dX4_lays_23 : decode cX4_lays 23 = .ok (.iadd, 1) := dk_96 (dk_at dksX4_lays_0 23 rfl rfl)
theorem dX4_lays_24 : decode cX4_lays 24 = .ok (.iload_n 3, 1) := dk_29 (dk_at dksX4_lays_1 0 rfl rfl)
theorem dX4_lays_25 : decode cX4_lays 25 = .ok (.isub, 1) := dk_100 (dk_at dksX4_lays_1 1 rfl rfl)
theorem dX4_lays_26 : decode cX4_lays 26 = .ok (.aload_n 0, 1) := dk_42 (dk_at dksX4_lays_1 2 rfl rfl)
theorem dX4_lays_27 : decode cX4_lays 27 = .ok (.iload_n 3, 1) := dk_29 (dk_at dksX4_lays_1 3 rfl rfl)
theorem dX4_lays_28 : decode cX4_lays 28 = .ok (.iload_n 2, 1) := dk_28 (dk_at dksX4_lays_1 4 rfl rfl)
theorem dX4_lays_29 : decode cX4_lays 29 = .ok (.iload_n 3, 1) := dk_29 (dk_at dksX4_lays_1 5 rfl rfl)
theorem dX4_lays_30 : decode cX4_lays 30 = .ok (.isub, 1) := dk_100 (dk_at dksX4_lays_1 6 rfl rfl)
theorem dX4_lays_31 : decode cX4_lays 31 = .ok (.iload_n 1, 1) := dk_27 (dk_at dksX4_lays_1 7 rfl rfl)
theorem dX4_lays_32 : decode cX4_lays 32 = .ok (.iload_n 2, 1) := dk_28 (dk_at dksX4_lays_1 8 rfl rfl)
theorem dX4_lays_33 : decode cX4_lays 33 = .ok (.isub, 1) := dk_100 (dk_at dksX4_lays_1 9 rfl rfl)
theorem dX4_lays_34 : decode cX4_lays 34 = .ok (.invokevirtual 307, 3) := dk_182 1 51 (dk_at dksX4_lays_1 10 rfl rfl)
theorem dX4_lays_37 : decode cX4_lays 37 = .ok (.iastore, 1) := dk_79 (dk_at dksX4_lays_1 13 rfl rfl)
theorem dX4_lays_38 : decode cX4_lays 38 = .ok (.iinc 3 1, 3) := dk_132 3 1 (dk_at dksX4_lays_1 14 rfl rfl)
theorem dX4_lays_41 : decode cX4_lays 41 = .ok (.goto (-32), 3) := dk_167 255 224 (dk_at dksX4_lays_1 17 rfl rfl)
theorem dX4_lays_44 : decode cX4_lays 44 = .ok (.iinc 2 1, 3) := dk_132 2 1 (dk_at dksX4_lays_1 20 rfl rfl)
theorem dX4_lays_47 : decode cX4_lays 47 = .ok (.goto (-45), 3) := dk_167 255 211 (dk_at dksX4_lays_2 0 rfl rfl)
theorem dX4_lays_50 : decode cX4_lays 50 = .ok (.iconst 1, 1) := dk_4 (dk_at dksX4_lays_2 3 rfl rfl)
theorem dX4_lays_51 : decode cX4_lays 51 = .ok (.istore_n 2, 1) := dk_61 (dk_at dksX4_lays_2 4 rfl rfl)
theorem dX4_lays_52 : decode cX4_lays 52 = .ok (.iload_n 2, 1) := dk_28 (dk_at dksX4_lays_2 5 rfl rfl)
theorem dX4_lays_53 : decode cX4_lays 53 = .ok (.iload_n 1, 1) := dk_27 (dk_at dksX4_lays_2 6 rfl rfl)
theorem dX4_lays_54 : decode cX4_lays 54 = .ok (.if_icmp .gt 45, 3) := dk_163 0 45 (dk_at dksX4_lays_2 7 rfl rfl)
theorem dX4_lays_57 : decode cX4_lays 57 = .ok (.aload_n 0, 1) := dk_42 (dk_at dksX4_lays_2 10 rfl rfl)
theorem dX4_lays_58 : decode cX4_lays 58 = .ok (.getfield 82, 3) := dk_180 0 82 (dk_at dksX4_lays_2 11 rfl rfl)
theorem dX4_lays_61 : decode cX4_lays 61 = .ok (.iconst 2, 1) := dk_5 (dk_at dksX4_lays_2 14 rfl rfl)
theorem dX4_lays_62 : decode cX4_lays 62 = .ok (.iload_n 2, 1) := dk_28 (dk_at dksX4_lays_2 15 rfl rfl)
theorem dX4_lays_63 : decode cX4_lays 63 = .ok (.imul, 1) := dk_104 (dk_at dksX4_lays_2 16 rfl rfl)
theorem dX4_lays_64 : decode cX4_lays 64 = .ok (.aload_n 0, 1) := dk_42 (dk_at dksX4_lays_2 17 rfl rfl)
theorem dX4_lays_65 : decode cX4_lays 65 = .ok (.iload_n 2, 1) := dk_28 (dk_at dksX4_lays_2 18 rfl rfl)
theorem dX4_lays_66 : decode cX4_lays 66 = .ok (.iconst 0, 1) := dk_3 (dk_at dksX4_lays_2 19 rfl rfl)
theorem dX4_lays_67 : decode cX4_lays 67 = .ok (.iload_n 1, 1) := dk_27 (dk_at dksX4_lays_2 20 rfl rfl)
theorem dX4_lays_68 : decode cX4_lays 68 = .ok (.iload_n 2, 1) := dk_28 (dk_at dksX4_lays_2 21 rfl rfl)
theorem dX4_lays_69 : decode cX4_lays 69 = .ok (.isub, 1) := dk_100 (dk_at dksX4_lays_2 22 rfl rfl)
theorem dX4_lays_70 : decode cX4_lays 70 = .ok (.invokevirtual 311, 3) := dk_182 1 55 (dk_at dksX4_lays_3 0 rfl rfl)
theorem dX4_lays_73 : decode cX4_lays 73 = .ok (.iastore, 1) := dk_79 (dk_at dksX4_lays_3 3 rfl rfl)
theorem dX4_lays_74 : decode cX4_lays 74 = .ok (.aload_n 0, 1) := dk_42 (dk_at dksX4_lays_3 4 rfl rfl)
theorem dX4_lays_75 : decode cX4_lays 75 = .ok (.getfield 82, 3) := dk_180 0 82 (dk_at dksX4_lays_3 5 rfl rfl)
theorem dX4_lays_78 : decode cX4_lays 78 = .ok (.iconst 2, 1) := dk_5 (dk_at dksX4_lays_3 8 rfl rfl)
theorem dX4_lays_79 : decode cX4_lays 79 = .ok (.iload_n 2, 1) := dk_28 (dk_at dksX4_lays_3 9 rfl rfl)
theorem dX4_lays_80 : decode cX4_lays 80 = .ok (.imul, 1) := dk_104 (dk_at dksX4_lays_3 10 rfl rfl)
theorem dX4_lays_81 : decode cX4_lays 81 = .ok (.iconst 1, 1) := dk_4 (dk_at dksX4_lays_3 11 rfl rfl)
theorem dX4_lays_82 : decode cX4_lays 82 = .ok (.iadd, 1) := dk_96 (dk_at dksX4_lays_3 12 rfl rfl)
theorem dX4_lays_83 : decode cX4_lays 83 = .ok (.aload_n 0, 1) := dk_42 (dk_at dksX4_lays_3 13 rfl rfl)
theorem dX4_lays_84 : decode cX4_lays 84 = .ok (.iload_n 2, 1) := dk_28 (dk_at dksX4_lays_3 14 rfl rfl)
theorem dX4_lays_85 : decode cX4_lays 85 = .ok (.iconst 1, 1) := dk_4 (dk_at dksX4_lays_3 15 rfl rfl)
theorem dX4_lays_86 : decode cX4_lays 86 = .ok (.iload_n 1, 1) := dk_27 (dk_at dksX4_lays_3 16 rfl rfl)
theorem dX4_lays_87 : decode cX4_lays 87 = .ok (.iload_n 2, 1) := dk_28 (dk_at dksX4_lays_3 17 rfl rfl)
theorem dX4_lays_88 : decode cX4_lays 88 = .ok (.isub, 1) := dk_100 (dk_at dksX4_lays_3 18 rfl rfl)
theorem dX4_lays_89 : decode cX4_lays 89 = .ok (.invokevirtual 311, 3) := dk_182 1 55 (dk_at dksX4_lays_3 19 rfl rfl)
theorem dX4_lays_92 : decode cX4_lays 92 = .ok (.iastore, 1) := dk_79 (dk_at dksX4_lays_3 22 rfl rfl)
theorem dX4_lays_93 : decode cX4_lays 93 = .ok (.iinc 2 1, 3) := dk_132 2 1 (dk_at dksX4_lays_4 0 rfl rfl)
theorem dX4_lays_96 : decode cX4_lays 96 = .ok (.goto (-44), 3) := dk_167 255 212 (dk_at dksX4_lays_4 3 rfl rfl)
theorem dX4_lays_99 : decode cX4_lays 99 = .ok (.return_, 1) := dk_177 (dk_at dksX4_lays_4 6 rfl rfl)
abbrev cX4_leastOne : ByteArray := prog_21_method_74_code
def yX4_leastOne : MethodName := ⟨RX4, "leastOne", "(III)I"⟩
def dkwX4_leastOne_8 : List UInt8 := [132, 7, 1, 167, 255, 97, 132, 6, 1, 167, 255, 79, 132, 5, 1, 167, 255, 64, 21, 4, 172]
abbrev dktX4_leastOne_8 : List UInt8 := dkwX4_leastOne_8 ++ []
def dkwX4_leastOne_7 : List UInt8 := [21, 4, 162, 0, 10, 21, 11, 4, 96, 167, 0, 5, 21, 4, 54, 4, 132, 8, 1, 167, 255, 112]
abbrev dktX4_leastOne_7 : List UInt8 := dkwX4_leastOne_7 ++ dktX4_leastOne_8
def dkwX4_leastOne_6 : List UInt8 := [182, 1, 58, 42, 21, 6, 21, 7, 182, 1, 58, 184, 1, 61, 184, 1, 61, 54, 11, 21, 11, 4, 96]
abbrev dktX4_leastOne_6 : List UInt8 := dkwX4_leastOne_6 ++ dktX4_leastOne_7
def dkwX4_leastOne_5 : List UInt8 := [42, 27, 21, 5, 100, 21, 6, 100, 28, 21, 7, 100, 21, 8, 100, 182, 1, 58, 42, 21, 5, 21, 8]
abbrev dktX4_leastOne_5 : List UInt8 := dkwX4_leastOne_5 ++ dktX4_leastOne_6
def dkwX4_leastOne_4 : List UInt8 := [158, 0, 7, 4, 167, 0, 4, 3, 54, 10, 21, 10, 153, 0, 74, 21, 9, 184, 1, 12, 29, 163, 0, 65]
abbrev dktX4_leastOne_4 : List UInt8 := dkwX4_leastOne_4 ++ dktX4_leastOne_5
def dkwX4_leastOne_3 : List UInt8 := [21, 6, 21, 7, 96, 27, 28, 96, 162, 0, 21, 21, 5, 21, 6, 96, 21, 7, 96, 21, 8, 96]
abbrev dktX4_leastOne_3 : List UInt8 := dkwX4_leastOne_3 ++ dktX4_leastOne_4
def dkwX4_leastOne_2 : List UInt8 := [21, 5, 21, 7, 96, 21, 6, 100, 21, 8, 100, 54, 9, 21, 5, 21, 8, 96, 27, 28, 96, 162, 0, 32]
abbrev dktX4_leastOne_2 : List UInt8 := dkwX4_leastOne_2 ++ dktX4_leastOne_3
def dkwX4_leastOne_1 : List UInt8 := [163, 0, 174, 3, 54, 7, 21, 7, 28, 163, 0, 159, 3, 54, 8, 21, 7, 21, 8, 96, 28, 163, 0, 141]
abbrev dktX4_leastOne_1 : List UInt8 := dkwX4_leastOne_1 ++ dktX4_leastOne_2
def dkwX4_leastOne_0 : List UInt8 := [16, 99, 54, 4, 3, 54, 5, 21, 5, 27, 163, 0, 192, 3, 54, 6, 21, 5, 21, 6, 96, 27]
abbrev dktX4_leastOne_0 : List UInt8 := dkwX4_leastOne_0 ++ dktX4_leastOne_1
theorem dksX4_leastOne_0 : cX4_leastOne.data.toList.drop 0 = dktX4_leastOne_0 := by decide +kernel
theorem dksX4_leastOne_1 : cX4_leastOne.data.toList.drop 22 = dktX4_leastOne_1 := dk_seg dksX4_leastOne_0 22 rfl rfl
theorem dksX4_leastOne_2 : cX4_leastOne.data.toList.drop 46 = dktX4_leastOne_2 := dk_seg dksX4_leastOne_1 24 rfl rfl
theorem dksX4_leastOne_3 : cX4_leastOne.data.toList.drop 70 = dktX4_leastOne_3 := dk_seg dksX4_leastOne_2 24 rfl rfl
theorem dksX4_leastOne_4 : cX4_leastOne.data.toList.drop 92 = dktX4_leastOne_4 := dk_seg dksX4_leastOne_3 22 rfl rfl
theorem dksX4_leastOne_5 : cX4_leastOne.data.toList.drop 116 = dktX4_leastOne_5 := dk_seg dksX4_leastOne_4 24 rfl rfl
theorem dksX4_leastOne_6 : cX4_leastOne.data.toList.drop 139 = dktX4_leastOne_6 := dk_seg dksX4_leastOne_5 23 rfl rfl
theorem dksX4_leastOne_7 : cX4_leastOne.data.toList.drop 162 = dktX4_leastOne_7 := dk_seg dksX4_leastOne_6 23 rfl rfl
theorem dksX4_leastOne_8 : cX4_leastOne.data.toList.drop 184 = dktX4_leastOne_8 := dk_seg dksX4_leastOne_7 22 rfl rfl
theorem dX4_leastOne_0 : decode cX4_leastOne 0 = .ok (.bipush 99, 2) := dk_16 99 (dk_at dksX4_leastOne_0 0 rfl rfl)
theorem dX4_leastOne_2 : decode cX4_leastOne 2 = .ok (.istore 4, 2) := dk_54 4 (dk_at dksX4_leastOne_0 2 rfl rfl)
theorem dX4_leastOne_4 : decode cX4_leastOne 4 = .ok (.iconst 0, 1) := dk_3 (dk_at dksX4_leastOne_0 4 rfl rfl)
theorem dX4_leastOne_5 : decode cX4_leastOne 5 = .ok (.istore 5, 2) := dk_54 5 (dk_at dksX4_leastOne_0 5 rfl rfl)
theorem dX4_leastOne_7 : decode cX4_leastOne 7 = .ok (.iload 5, 2) := dk_21 5 (dk_at dksX4_leastOne_0 7 rfl rfl)
theorem dX4_leastOne_9 : decode cX4_leastOne 9 = .ok (.iload_n 1, 1) := dk_27 (dk_at dksX4_leastOne_0 9 rfl rfl)
theorem dX4_leastOne_10 : decode cX4_leastOne 10 = .ok (.if_icmp .gt 192, 3) := dk_163 0 192 (dk_at dksX4_leastOne_0 10 rfl rfl)
theorem dX4_leastOne_13 : decode cX4_leastOne 13 = .ok (.iconst 0, 1) := dk_3 (dk_at dksX4_leastOne_0 13 rfl rfl)
theorem dX4_leastOne_14 : decode cX4_leastOne 14 = .ok (.istore 6, 2) := dk_54 6 (dk_at dksX4_leastOne_0 14 rfl rfl)
theorem dX4_leastOne_16 : decode cX4_leastOne 16 = .ok (.iload 5, 2) := dk_21 5 (dk_at dksX4_leastOne_0 16 rfl rfl)
theorem dX4_leastOne_18 : decode cX4_leastOne 18 = .ok (.iload 6, 2) := dk_21 6 (dk_at dksX4_leastOne_0 18 rfl rfl)
theorem dX4_leastOne_20 : decode cX4_leastOne 20 = .ok (.iadd, 1) := dk_96 (dk_at dksX4_leastOne_0 20 rfl rfl)
theorem dX4_leastOne_21 : decode cX4_leastOne 21 = .ok (.iload_n 1, 1) := dk_27 (dk_at dksX4_leastOne_0 21 rfl rfl)
theorem dX4_leastOne_22 : decode cX4_leastOne 22 = .ok (.if_icmp .gt 174, 3) := dk_163 0 174 (dk_at dksX4_leastOne_1 0 rfl rfl)
theorem dX4_leastOne_25 : decode cX4_leastOne 25 = .ok (.iconst 0, 1) := dk_3 (dk_at dksX4_leastOne_1 3 rfl rfl)
theorem dX4_leastOne_26 : decode cX4_leastOne 26 = .ok (.istore 7, 2) := dk_54 7 (dk_at dksX4_leastOne_1 4 rfl rfl)
theorem dX4_leastOne_28 : decode cX4_leastOne 28 = .ok (.iload 7, 2) := dk_21 7 (dk_at dksX4_leastOne_1 6 rfl rfl)
theorem dX4_leastOne_30 : decode cX4_leastOne 30 = .ok (.iload_n 2, 1) := dk_28 (dk_at dksX4_leastOne_1 8 rfl rfl)
theorem dX4_leastOne_31 : decode cX4_leastOne 31 = .ok (.if_icmp .gt 159, 3) := dk_163 0 159 (dk_at dksX4_leastOne_1 9 rfl rfl)
theorem dX4_leastOne_34 : decode cX4_leastOne 34 = .ok (.iconst 0, 1) := dk_3 (dk_at dksX4_leastOne_1 12 rfl rfl)
theorem dX4_leastOne_35 : decode cX4_leastOne 35 = .ok (.istore 8, 2) := dk_54 8 (dk_at dksX4_leastOne_1 13 rfl rfl)
theorem dX4_leastOne_37 : decode cX4_leastOne 37 = .ok (.iload 7, 2) := dk_21 7 (dk_at dksX4_leastOne_1 15 rfl rfl)
theorem dX4_leastOne_39 : decode cX4_leastOne 39 = .ok (.iload 8, 2) := dk_21 8 (dk_at dksX4_leastOne_1 17 rfl rfl)
theorem dX4_leastOne_41 : decode cX4_leastOne 41 = .ok (.iadd, 1) := dk_96 (dk_at dksX4_leastOne_1 19 rfl rfl)
theorem dX4_leastOne_42 : decode cX4_leastOne 42 = .ok (.iload_n 2, 1) := dk_28 (dk_at dksX4_leastOne_1 20 rfl rfl)
theorem dX4_leastOne_43 : decode cX4_leastOne 43 = .ok (.if_icmp .gt 141, 3) := dk_163 0 141 (dk_at dksX4_leastOne_1 21 rfl rfl)
theorem dX4_leastOne_46 : decode cX4_leastOne 46 = .ok (.iload 5, 2) := dk_21 5 (dk_at dksX4_leastOne_2 0 rfl rfl)
theorem dX4_leastOne_48 : decode cX4_leastOne 48 = .ok (.iload 7, 2) := dk_21 7 (dk_at dksX4_leastOne_2 2 rfl rfl)
theorem dX4_leastOne_50 : decode cX4_leastOne 50 = .ok (.iadd, 1) := dk_96 (dk_at dksX4_leastOne_2 4 rfl rfl)
theorem dX4_leastOne_51 : decode cX4_leastOne 51 = .ok (.iload 6, 2) := dk_21 6 (dk_at dksX4_leastOne_2 5 rfl rfl)
theorem dX4_leastOne_53 : decode cX4_leastOne 53 = .ok (.isub, 1) := dk_100 (dk_at dksX4_leastOne_2 7 rfl rfl)
theorem dX4_leastOne_54 : decode cX4_leastOne 54 = .ok (.iload 8, 2) := dk_21 8 (dk_at dksX4_leastOne_2 8 rfl rfl)
theorem dX4_leastOne_56 : decode cX4_leastOne 56 = .ok (.isub, 1) := dk_100 (dk_at dksX4_leastOne_2 10 rfl rfl)
theorem dX4_leastOne_57 : decode cX4_leastOne 57 = .ok (.istore 9, 2) := dk_54 9 (dk_at dksX4_leastOne_2 11 rfl rfl)
theorem dX4_leastOne_59 : decode cX4_leastOne 59 = .ok (.iload 5, 2) := dk_21 5 (dk_at dksX4_leastOne_2 13 rfl rfl)
theorem dX4_leastOne_61 : decode cX4_leastOne 61 = .ok (.iload 8, 2) := dk_21 8 (dk_at dksX4_leastOne_2 15 rfl rfl)
theorem dX4_leastOne_63 : decode cX4_leastOne 63 = .ok (.iadd, 1) := dk_96 (dk_at dksX4_leastOne_2 17 rfl rfl)
theorem dX4_leastOne_64 : decode cX4_leastOne 64 = .ok (.iload_n 1, 1) := dk_27 (dk_at dksX4_leastOne_2 18 rfl rfl)
theorem dX4_leastOne_65 : decode cX4_leastOne 65 = .ok (.iload_n 2, 1) := dk_28 (dk_at dksX4_leastOne_2 19 rfl rfl)
theorem dX4_leastOne_66 : decode cX4_leastOne 66 = .ok (.iadd, 1) := dk_96 (dk_at dksX4_leastOne_2 20 rfl rfl)
theorem dX4_leastOne_67 : decode cX4_leastOne 67 = .ok (.if_icmp .ge 32, 3) := dk_162 0 32 (dk_at dksX4_leastOne_2 21 rfl rfl)
theorem dX4_leastOne_70 : decode cX4_leastOne 70 = .ok (.iload 6, 2) := dk_21 6 (dk_at dksX4_leastOne_3 0 rfl rfl)
theorem dX4_leastOne_72 : decode cX4_leastOne 72 = .ok (.iload 7, 2) := dk_21 7 (dk_at dksX4_leastOne_3 2 rfl rfl)
theorem dX4_leastOne_74 : decode cX4_leastOne 74 = .ok (.iadd, 1) := dk_96 (dk_at dksX4_leastOne_3 4 rfl rfl)
theorem dX4_leastOne_75 : decode cX4_leastOne 75 = .ok (.iload_n 1, 1) := dk_27 (dk_at dksX4_leastOne_3 5 rfl rfl)
theorem dX4_leastOne_76 : decode cX4_leastOne 76 = .ok (.iload_n 2, 1) := dk_28 (dk_at dksX4_leastOne_3 6 rfl rfl)
theorem dX4_leastOne_77 : decode cX4_leastOne 77 = .ok (.iadd, 1) := dk_96 (dk_at dksX4_leastOne_3 7 rfl rfl)
theorem dX4_leastOne_78 : decode cX4_leastOne 78 = .ok (.if_icmp .ge 21, 3) := dk_162 0 21 (dk_at dksX4_leastOne_3 8 rfl rfl)
theorem dX4_leastOne_81 : decode cX4_leastOne 81 = .ok (.iload 5, 2) := dk_21 5 (dk_at dksX4_leastOne_3 11 rfl rfl)
theorem dX4_leastOne_83 : decode cX4_leastOne 83 = .ok (.iload 6, 2) := dk_21 6 (dk_at dksX4_leastOne_3 13 rfl rfl)
theorem dX4_leastOne_85 : decode cX4_leastOne 85 = .ok (.iadd, 1) := dk_96 (dk_at dksX4_leastOne_3 15 rfl rfl)
theorem dX4_leastOne_86 : decode cX4_leastOne 86 = .ok (.iload 7, 2) := dk_21 7 (dk_at dksX4_leastOne_3 16 rfl rfl)
theorem dX4_leastOne_88 : decode cX4_leastOne 88 = .ok (.iadd, 1) := dk_96 (dk_at dksX4_leastOne_3 18 rfl rfl)
theorem dX4_leastOne_89 : decode cX4_leastOne 89 = .ok (.iload 8, 2) := dk_21 8 (dk_at dksX4_leastOne_3 19 rfl rfl)
theorem dX4_leastOne_91 : decode cX4_leastOne 91 = .ok (.iadd, 1) := dk_96 (dk_at dksX4_leastOne_3 21 rfl rfl)
theorem dX4_leastOne_92 : decode cX4_leastOne 92 = .ok (.ifCond .le 7, 3) := dk_158 0 7 (dk_at dksX4_leastOne_4 0 rfl rfl)
theorem dX4_leastOne_95 : decode cX4_leastOne 95 = .ok (.iconst 1, 1) := dk_4 (dk_at dksX4_leastOne_4 3 rfl rfl)
theorem dX4_leastOne_96 : decode cX4_leastOne 96 = .ok (.goto 4, 3) := dk_167 0 4 (dk_at dksX4_leastOne_4 4 rfl rfl)
theorem dX4_leastOne_99 : decode cX4_leastOne 99 = .ok (.iconst 0, 1) := dk_3 (dk_at dksX4_leastOne_4 7 rfl rfl)
theorem dX4_leastOne_100 : decode cX4_leastOne 100 = .ok (.istore 10, 2) := dk_54 10 (dk_at dksX4_leastOne_4 8 rfl rfl)
theorem dX4_leastOne_102 : decode cX4_leastOne 102 = .ok (.iload 10, 2) := dk_21 10 (dk_at dksX4_leastOne_4 10 rfl rfl)
theorem dX4_leastOne_104 : decode cX4_leastOne 104 = .ok (.ifCond .eq 74, 3) := dk_153 0 74 (dk_at dksX4_leastOne_4 12 rfl rfl)
theorem dX4_leastOne_107 : decode cX4_leastOne 107 = .ok (.iload 9, 2) := dk_21 9 (dk_at dksX4_leastOne_4 15 rfl rfl)
theorem dX4_leastOne_109 : decode cX4_leastOne 109 = .ok (.invokestatic 268, 3) := dk_184 1 12 (dk_at dksX4_leastOne_4 17 rfl rfl)
theorem dX4_leastOne_112 : decode cX4_leastOne 112 = .ok (.iload_n 3, 1) := dk_29 (dk_at dksX4_leastOne_4 20 rfl rfl)
theorem dX4_leastOne_113 : decode cX4_leastOne 113 = .ok (.if_icmp .gt 65, 3) := dk_163 0 65 (dk_at dksX4_leastOne_4 21 rfl rfl)
theorem dX4_leastOne_116 : decode cX4_leastOne 116 = .ok (.aload_n 0, 1) := dk_42 (dk_at dksX4_leastOne_5 0 rfl rfl)
theorem dX4_leastOne_117 : decode cX4_leastOne 117 = .ok (.iload_n 1, 1) := dk_27 (dk_at dksX4_leastOne_5 1 rfl rfl)
theorem dX4_leastOne_118 : decode cX4_leastOne 118 = .ok (.iload 5, 2) := dk_21 5 (dk_at dksX4_leastOne_5 2 rfl rfl)
theorem dX4_leastOne_120 : decode cX4_leastOne 120 = .ok (.isub, 1) := dk_100 (dk_at dksX4_leastOne_5 4 rfl rfl)
theorem dX4_leastOne_121 : decode cX4_leastOne 121 = .ok (.iload 6, 2) := dk_21 6 (dk_at dksX4_leastOne_5 5 rfl rfl)
theorem dX4_leastOne_123 : decode cX4_leastOne 123 = .ok (.isub, 1) := dk_100 (dk_at dksX4_leastOne_5 7 rfl rfl)
theorem dX4_leastOne_124 : decode cX4_leastOne 124 = .ok (.iload_n 2, 1) := dk_28 (dk_at dksX4_leastOne_5 8 rfl rfl)
theorem dX4_leastOne_125 : decode cX4_leastOne 125 = .ok (.iload 7, 2) := dk_21 7 (dk_at dksX4_leastOne_5 9 rfl rfl)
theorem dX4_leastOne_127 : decode cX4_leastOne 127 = .ok (.isub, 1) := dk_100 (dk_at dksX4_leastOne_5 11 rfl rfl)
theorem dX4_leastOne_128 : decode cX4_leastOne 128 = .ok (.iload 8, 2) := dk_21 8 (dk_at dksX4_leastOne_5 12 rfl rfl)
theorem dX4_leastOne_130 : decode cX4_leastOne 130 = .ok (.isub, 1) := dk_100 (dk_at dksX4_leastOne_5 14 rfl rfl)
theorem dX4_leastOne_131 : decode cX4_leastOne 131 = .ok (.invokevirtual 314, 3) := dk_182 1 58 (dk_at dksX4_leastOne_5 15 rfl rfl)
theorem dX4_leastOne_134 : decode cX4_leastOne 134 = .ok (.aload_n 0, 1) := dk_42 (dk_at dksX4_leastOne_5 18 rfl rfl)
theorem dX4_leastOne_135 : decode cX4_leastOne 135 = .ok (.iload 5, 2) := dk_21 5 (dk_at dksX4_leastOne_5 19 rfl rfl)
theorem dX4_leastOne_137 : decode cX4_leastOne 137 = .ok (.iload 8, 2) := dk_21 8 (dk_at dksX4_leastOne_5 21 rfl rfl)
theorem dX4_leastOne_139 : decode cX4_leastOne 139 = .ok (.invokevirtual 314, 3) := dk_182 1 58 (dk_at dksX4_leastOne_6 0 rfl rfl)
theorem dX4_leastOne_142 : decode cX4_leastOne 142 = .ok (.aload_n 0, 1) := dk_42 (dk_at dksX4_leastOne_6 3 rfl rfl)
theorem dX4_leastOne_143 : decode cX4_leastOne 143 = .ok (.iload 6, 2) := dk_21 6 (dk_at dksX4_leastOne_6 4 rfl rfl)
theorem dX4_leastOne_145 : decode cX4_leastOne 145 = .ok (.iload 7, 2) := dk_21 7 (dk_at dksX4_leastOne_6 6 rfl rfl)
theorem dX4_leastOne_147 : decode cX4_leastOne 147 = .ok (.invokevirtual 314, 3) := dk_182 1 58 (dk_at dksX4_leastOne_6 8 rfl rfl)
theorem dX4_leastOne_150 : decode cX4_leastOne 150 = .ok (.invokestatic 317, 3) := dk_184 1 61 (dk_at dksX4_leastOne_6 11 rfl rfl)
theorem dX4_leastOne_153 : decode cX4_leastOne 153 = .ok (.invokestatic 317, 3) := dk_184 1 61 (dk_at dksX4_leastOne_6 14 rfl rfl)
theorem dX4_leastOne_156 : decode cX4_leastOne 156 = .ok (.istore 11, 2) := dk_54 11 (dk_at dksX4_leastOne_6 17 rfl rfl)
theorem dX4_leastOne_158 : decode cX4_leastOne 158 = .ok (.iload 11, 2) := dk_21 11 (dk_at dksX4_leastOne_6 19 rfl rfl)
theorem dX4_leastOne_160 : decode cX4_leastOne 160 = .ok (.iconst 1, 1) := dk_4 (dk_at dksX4_leastOne_6 21 rfl rfl)
theorem dX4_leastOne_161 : decode cX4_leastOne 161 = .ok (.iadd, 1) := dk_96 (dk_at dksX4_leastOne_6 22 rfl rfl)
theorem dX4_leastOne_162 : decode cX4_leastOne 162 = .ok (.iload 4, 2) := dk_21 4 (dk_at dksX4_leastOne_7 0 rfl rfl)
theorem dX4_leastOne_164 : decode cX4_leastOne 164 = .ok (.if_icmp .ge 10, 3) := dk_162 0 10 (dk_at dksX4_leastOne_7 2 rfl rfl)
theorem dX4_leastOne_167 : decode cX4_leastOne 167 = .ok (.iload 11, 2) := dk_21 11 (dk_at dksX4_leastOne_7 5 rfl rfl)
theorem dX4_leastOne_169 : decode cX4_leastOne 169 = .ok (.iconst 1, 1) := dk_4 (dk_at dksX4_leastOne_7 7 rfl rfl)
theorem dX4_leastOne_170 : decode cX4_leastOne 170 = .ok (.iadd, 1) := dk_96 (dk_at dksX4_leastOne_7 8 rfl rfl)
theorem dX4_leastOne_171 : decode cX4_leastOne 171 = .ok (.goto 5, 3) := dk_167 0 5 (dk_at dksX4_leastOne_7 9 rfl rfl)
theorem dX4_leastOne_174 : decode cX4_leastOne 174 = .ok (.iload 4, 2) := dk_21 4 (dk_at dksX4_leastOne_7 12 rfl rfl)
theorem dX4_leastOne_176 : decode cX4_leastOne 176 = .ok (.istore 4, 2) := dk_54 4 (dk_at dksX4_leastOne_7 14 rfl rfl)
theorem dX4_leastOne_178 : decode cX4_leastOne 178 = .ok (.iinc 8 1, 3) := dk_132 8 1 (dk_at dksX4_leastOne_7 16 rfl rfl)
theorem dX4_leastOne_181 : decode cX4_leastOne 181 = .ok (.goto (-144), 3) := dk_167 255 112 (dk_at dksX4_leastOne_7 19 rfl rfl)
theorem dX4_leastOne_184 : decode cX4_leastOne 184 = .ok (.iinc 7 1, 3) := dk_132 7 1 (dk_at dksX4_leastOne_8 0 rfl rfl)
theorem dX4_leastOne_187 : decode cX4_leastOne 187 = .ok (.goto (-159), 3) := dk_167 255 97 (dk_at dksX4_leastOne_8 3 rfl rfl)
theorem dX4_leastOne_190 : decode cX4_leastOne 190 = .ok (.iinc 6 1, 3) := dk_132 6 1 (dk_at dksX4_leastOne_8 6 rfl rfl)
theorem dX4_leastOne_193 : decode cX4_leastOne 193 = .ok (.goto (-177), 3) := dk_167 255 79 (dk_at dksX4_leastOne_8 9 rfl rfl)
theorem dX4_leastOne_196 : decode cX4_leastOne 196 = .ok (.iinc 5 1, 3) := dk_132 5 1 (dk_at dksX4_leastOne_8 12 rfl rfl)
theorem dX4_leastOne_199 : decode cX4_leastOne 199 = .ok (.goto (-192), 3) := dk_167 255 64 (dk_at dksX4_leastOne_8 15 rfl rfl)
theorem dX4_leastOne_202 : decode cX4_leastOne 202 = .ok (.iload 4, 2) := dk_21 4 (dk_at dksX4_leastOne_8 18 rfl rfl)
theorem dX4_leastOne_204 : decode cX4_leastOne 204 = .ok (.ireturn, 1) := dk_172 (dk_at dksX4_leastOne_8 20 rfl rfl)
abbrev cX4_oneOf : ByteArray := prog_21_method_71_code
def yX4_oneOf : MethodName := ⟨RX4, "oneOf", "(II)I"⟩
def dkwX4_oneOf_0 : List UInt8 := [27, 28, 96, 5, 162, 0, 7, 3, 167, 0, 14, 42, 180, 0, 79, 16, 13, 27, 104, 28, 96, 46, 172]
abbrev dktX4_oneOf_0 : List UInt8 := dkwX4_oneOf_0 ++ []
theorem dksX4_oneOf_0 : cX4_oneOf.data.toList.drop 0 = dktX4_oneOf_0 := by decide +kernel
theorem dX4_oneOf_0 : decode cX4_oneOf 0 = .ok (.iload_n 1, 1) := dk_27 (dk_at dksX4_oneOf_0 0 rfl rfl)
theorem dX4_oneOf_1 : decode cX4_oneOf 1 = .ok (.iload_n 2, 1) := dk_28 (dk_at dksX4_oneOf_0 1 rfl rfl)
theorem dX4_oneOf_2 : decode cX4_oneOf 2 = .ok (.iadd, 1) := dk_96 (dk_at dksX4_oneOf_0 2 rfl rfl)
theorem dX4_oneOf_3 : decode cX4_oneOf 3 = .ok (.iconst 2, 1) := dk_5 (dk_at dksX4_oneOf_0 3 rfl rfl)
theorem dX4_oneOf_4 : decode cX4_oneOf 4 = .ok (.if_icmp .ge 7, 3) := dk_162 0 7 (dk_at dksX4_oneOf_0 4 rfl rfl)
theorem dX4_oneOf_7 : decode cX4_oneOf 7 = .ok (.iconst 0, 1) := dk_3 (dk_at dksX4_oneOf_0 7 rfl rfl)
theorem dX4_oneOf_8 : decode cX4_oneOf 8 = .ok (.goto 14, 3) := dk_167 0 14 (dk_at dksX4_oneOf_0 8 rfl rfl)
theorem dX4_oneOf_11 : decode cX4_oneOf 11 = .ok (.aload_n 0, 1) := dk_42 (dk_at dksX4_oneOf_0 11 rfl rfl)
theorem dX4_oneOf_12 : decode cX4_oneOf 12 = .ok (.getfield 79, 3) := dk_180 0 79 (dk_at dksX4_oneOf_0 12 rfl rfl)
theorem dX4_oneOf_15 : decode cX4_oneOf 15 = .ok (.bipush 13, 2) := dk_16 13 (dk_at dksX4_oneOf_0 15 rfl rfl)
theorem dX4_oneOf_17 : decode cX4_oneOf 17 = .ok (.iload_n 1, 1) := dk_27 (dk_at dksX4_oneOf_0 17 rfl rfl)
theorem dX4_oneOf_18 : decode cX4_oneOf 18 = .ok (.imul, 1) := dk_104 (dk_at dksX4_oneOf_0 18 rfl rfl)
theorem dX4_oneOf_19 : decode cX4_oneOf 19 = .ok (.iload_n 2, 1) := dk_28 (dk_at dksX4_oneOf_0 19 rfl rfl)
theorem dX4_oneOf_20 : decode cX4_oneOf 20 = .ok (.iadd, 1) := dk_96 (dk_at dksX4_oneOf_0 20 rfl rfl)
theorem dX4_oneOf_21 : decode cX4_oneOf 21 = .ok (.iaload, 1) := dk_46 (dk_at dksX4_oneOf_0 21 rfl rfl)
theorem dX4_oneOf_22 : decode cX4_oneOf 22 = .ok (.ireturn, 1) := dk_172 (dk_at dksX4_oneOf_0 22 rfl rfl)
abbrev cX4_worse : ByteArray := prog_21_method_70_code
def yX4_worse : MethodName := ⟨RX4, "worse", "(II)I"⟩
def dkwX4_worse_0 : List UInt8 := [26, 27, 164, 0, 7, 26, 167, 0, 4, 27, 172]
abbrev dktX4_worse_0 : List UInt8 := dkwX4_worse_0 ++ []
theorem dksX4_worse_0 : cX4_worse.data.toList.drop 0 = dktX4_worse_0 := by decide +kernel
theorem dX4_worse_0 : decode cX4_worse 0 = .ok (.iload_n 0, 1) := dk_26 (dk_at dksX4_worse_0 0 rfl rfl)
theorem dX4_worse_1 : decode cX4_worse 1 = .ok (.iload_n 1, 1) := dk_27 (dk_at dksX4_worse_0 1 rfl rfl)
theorem dX4_worse_2 : decode cX4_worse 2 = .ok (.if_icmp .le 7, 3) := dk_164 0 7 (dk_at dksX4_worse_0 2 rfl rfl)
theorem dX4_worse_5 : decode cX4_worse 5 = .ok (.iload_n 0, 1) := dk_26 (dk_at dksX4_worse_0 5 rfl rfl)
theorem dX4_worse_6 : decode cX4_worse 6 = .ok (.goto 4, 3) := dk_167 0 4 (dk_at dksX4_worse_0 6 rfl rfl)
theorem dX4_worse_9 : decode cX4_worse 9 = .ok (.iload_n 1, 1) := dk_27 (dk_at dksX4_worse_0 9 rfl rfl)
theorem dX4_worse_10 : decode cX4_worse 10 = .ok (.ireturn, 1) := dk_172 (dk_at dksX4_worse_0 10 rfl rfl)
abbrev cX4_leastBoth : ByteArray := prog_21_method_75_code
def yX4_leastBoth : MethodName := ⟨RX4, "leastBoth", "(III)I"⟩
def dkwX4_leastBoth_4 : List UInt8 := [167, 0, 5, 21, 4, 54, 4, 132, 6, 1, 167, 255, 168, 132, 5, 1, 167, 255, 153, 21, 4, 172]
abbrev dktX4_leastBoth_4 : List UInt8 := dkwX4_leastBoth_4 ++ []
def dkwX4_leastBoth_3 : List UInt8 := [182, 1, 58, 184, 1, 61, 184, 1, 61, 54, 7, 21, 7, 4, 96, 21, 4, 162, 0, 10, 21, 7, 4, 96]
abbrev dktX4_leastBoth_3 : List UInt8 := dkwX4_leastBoth_3 ++ dktX4_leastBoth_4
def dkwX4_leastBoth_2 : List UInt8 := [27, 21, 5, 100, 21, 6, 100, 28, 182, 1, 64, 42, 21, 5, 21, 6, 182, 1, 58, 42, 21, 6, 21, 5]
abbrev dktX4_leastBoth_2 : List UInt8 := dkwX4_leastBoth_2 ++ dktX4_leastBoth_3
def dkwX4_leastBoth_1 : List UInt8 := [163, 0, 85, 21, 5, 21, 6, 96, 158, 0, 71, 21, 5, 21, 6, 100, 184, 1, 12, 29, 163, 0, 59, 42]
abbrev dktX4_leastBoth_1 : List UInt8 := dkwX4_leastBoth_1 ++ dktX4_leastBoth_2
def dkwX4_leastBoth_0 : List UInt8 := [16, 99, 54, 4, 3, 54, 5, 21, 5, 27, 163, 0, 103, 3, 54, 6, 21, 5, 21, 6, 96, 27]
abbrev dktX4_leastBoth_0 : List UInt8 := dkwX4_leastBoth_0 ++ dktX4_leastBoth_1
theorem dksX4_leastBoth_0 : cX4_leastBoth.data.toList.drop 0 = dktX4_leastBoth_0 := by decide +kernel
theorem dksX4_leastBoth_1 : cX4_leastBoth.data.toList.drop 22 = dktX4_leastBoth_1 := dk_seg dksX4_leastBoth_0 22 rfl rfl
theorem dksX4_leastBoth_2 : cX4_leastBoth.data.toList.drop 46 = dktX4_leastBoth_2 := dk_seg dksX4_leastBoth_1 24 rfl rfl
theorem dksX4_leastBoth_3 : cX4_leastBoth.data.toList.drop 70 = dktX4_leastBoth_3 := dk_seg dksX4_leastBoth_2 24 rfl rfl
theorem dksX4_leastBoth_4 : cX4_leastBoth.data.toList.drop 94 = dktX4_leastBoth_4 := dk_seg dksX4_leastBoth_3 24 rfl rfl
theorem dX4_leastBoth_0 : decode cX4_leastBoth 0 = .ok (.bipush 99, 2) := dk_16 99 (dk_at dksX4_leastBoth_0 0 rfl rfl)
theorem dX4_leastBoth_2 : decode cX4_leastBoth 2 = .ok (.istore 4, 2) := dk_54 4 (dk_at dksX4_leastBoth_0 2 rfl rfl)
theorem dX4_leastBoth_4 : decode cX4_leastBoth 4 = .ok (.iconst 0, 1) := dk_3 (dk_at dksX4_leastBoth_0 4 rfl rfl)
theorem dX4_leastBoth_5 : decode cX4_leastBoth 5 = .ok (.istore 5, 2) := dk_54 5 (dk_at dksX4_leastBoth_0 5 rfl rfl)
theorem dX4_leastBoth_7 : decode cX4_leastBoth 7 = .ok (.iload 5, 2) := dk_21 5 (dk_at dksX4_leastBoth_0 7 rfl rfl)
theorem dX4_leastBoth_9 : decode cX4_leastBoth 9 = .ok (.iload_n 1, 1) := dk_27 (dk_at dksX4_leastBoth_0 9 rfl rfl)
theorem dX4_leastBoth_10 : decode cX4_leastBoth 10 = .ok (.if_icmp .gt 103, 3) := dk_163 0 103 (dk_at dksX4_leastBoth_0 10 rfl rfl)
theorem dX4_leastBoth_13 : decode cX4_leastBoth 13 = .ok (.iconst 0, 1) := dk_3 (dk_at dksX4_leastBoth_0 13 rfl rfl)
theorem dX4_leastBoth_14 : decode cX4_leastBoth 14 = .ok (.istore 6, 2) := dk_54 6 (dk_at dksX4_leastBoth_0 14 rfl rfl)
theorem dX4_leastBoth_16 : decode cX4_leastBoth 16 = .ok (.iload 5, 2) := dk_21 5 (dk_at dksX4_leastBoth_0 16 rfl rfl)
theorem dX4_leastBoth_18 : decode cX4_leastBoth 18 = .ok (.iload 6, 2) := dk_21 6 (dk_at dksX4_leastBoth_0 18 rfl rfl)
theorem dX4_leastBoth_20 : decode cX4_leastBoth 20 = .ok (.iadd, 1) := dk_96 (dk_at dksX4_leastBoth_0 20 rfl rfl)
theorem dX4_leastBoth_21 : decode cX4_leastBoth 21 = .ok (.iload_n 1, 1) := dk_27 (dk_at dksX4_leastBoth_0 21 rfl rfl)
theorem dX4_leastBoth_22 : decode cX4_leastBoth 22 = .ok (.if_icmp .gt 85, 3) := dk_163 0 85 (dk_at dksX4_leastBoth_1 0 rfl rfl)
theorem dX4_leastBoth_25 : decode cX4_leastBoth 25 = .ok (.iload 5, 2) := dk_21 5 (dk_at dksX4_leastBoth_1 3 rfl rfl)
theorem dX4_leastBoth_27 : decode cX4_leastBoth 27 = .ok (.iload 6, 2) := dk_21 6 (dk_at dksX4_leastBoth_1 5 rfl rfl)
theorem dX4_leastBoth_29 : decode cX4_leastBoth 29 = .ok (.iadd, 1) := dk_96 (dk_at dksX4_leastBoth_1 7 rfl rfl)
theorem dX4_leastBoth_30 : decode cX4_leastBoth 30 = .ok (.ifCond .le 71, 3) := dk_158 0 71 (dk_at dksX4_leastBoth_1 8 rfl rfl)
theorem dX4_leastBoth_33 : decode cX4_leastBoth 33 = .ok (.iload 5, 2) := dk_21 5 (dk_at dksX4_leastBoth_1 11 rfl rfl)
theorem dX4_leastBoth_35 : decode cX4_leastBoth 35 = .ok (.iload 6, 2) := dk_21 6 (dk_at dksX4_leastBoth_1 13 rfl rfl)
theorem dX4_leastBoth_37 : decode cX4_leastBoth 37 = .ok (.isub, 1) := dk_100 (dk_at dksX4_leastBoth_1 15 rfl rfl)
theorem dX4_leastBoth_38 : decode cX4_leastBoth 38 = .ok (.invokestatic 268, 3) := dk_184 1 12 (dk_at dksX4_leastBoth_1 16 rfl rfl)
theorem dX4_leastBoth_41 : decode cX4_leastBoth 41 = .ok (.iload_n 3, 1) := dk_29 (dk_at dksX4_leastBoth_1 19 rfl rfl)
theorem dX4_leastBoth_42 : decode cX4_leastBoth 42 = .ok (.if_icmp .gt 59, 3) := dk_163 0 59 (dk_at dksX4_leastBoth_1 20 rfl rfl)
theorem dX4_leastBoth_45 : decode cX4_leastBoth 45 = .ok (.aload_n 0, 1) := dk_42 (dk_at dksX4_leastBoth_1 23 rfl rfl)
theorem dX4_leastBoth_46 : decode cX4_leastBoth 46 = .ok (.iload_n 1, 1) := dk_27 (dk_at dksX4_leastBoth_2 0 rfl rfl)
theorem dX4_leastBoth_47 : decode cX4_leastBoth 47 = .ok (.iload 5, 2) := dk_21 5 (dk_at dksX4_leastBoth_2 1 rfl rfl)
theorem dX4_leastBoth_49 : decode cX4_leastBoth 49 = .ok (.isub, 1) := dk_100 (dk_at dksX4_leastBoth_2 3 rfl rfl)
theorem dX4_leastBoth_50 : decode cX4_leastBoth 50 = .ok (.iload 6, 2) := dk_21 6 (dk_at dksX4_leastBoth_2 4 rfl rfl)
theorem dX4_leastBoth_52 : decode cX4_leastBoth 52 = .ok (.isub, 1) := dk_100 (dk_at dksX4_leastBoth_2 6 rfl rfl)
theorem dX4_leastBoth_53 : decode cX4_leastBoth 53 = .ok (.iload_n 2, 1) := dk_28 (dk_at dksX4_leastBoth_2 7 rfl rfl)
theorem dX4_leastBoth_54 : decode cX4_leastBoth 54 = .ok (.invokevirtual 320, 3) := dk_182 1 64 (dk_at dksX4_leastBoth_2 8 rfl rfl)
theorem dX4_leastBoth_57 : decode cX4_leastBoth 57 = .ok (.aload_n 0, 1) := dk_42 (dk_at dksX4_leastBoth_2 11 rfl rfl)
theorem dX4_leastBoth_58 : decode cX4_leastBoth 58 = .ok (.iload 5, 2) := dk_21 5 (dk_at dksX4_leastBoth_2 12 rfl rfl)
theorem dX4_leastBoth_60 : decode cX4_leastBoth 60 = .ok (.iload 6, 2) := dk_21 6 (dk_at dksX4_leastBoth_2 14 rfl rfl)
theorem dX4_leastBoth_62 : decode cX4_leastBoth 62 = .ok (.invokevirtual 314, 3) := dk_182 1 58 (dk_at dksX4_leastBoth_2 16 rfl rfl)
theorem dX4_leastBoth_65 : decode cX4_leastBoth 65 = .ok (.aload_n 0, 1) := dk_42 (dk_at dksX4_leastBoth_2 19 rfl rfl)
theorem dX4_leastBoth_66 : decode cX4_leastBoth 66 = .ok (.iload 6, 2) := dk_21 6 (dk_at dksX4_leastBoth_2 20 rfl rfl)
theorem dX4_leastBoth_68 : decode cX4_leastBoth 68 = .ok (.iload 5, 2) := dk_21 5 (dk_at dksX4_leastBoth_2 22 rfl rfl)
theorem dX4_leastBoth_70 : decode cX4_leastBoth 70 = .ok (.invokevirtual 314, 3) := dk_182 1 58 (dk_at dksX4_leastBoth_3 0 rfl rfl)
theorem dX4_leastBoth_73 : decode cX4_leastBoth 73 = .ok (.invokestatic 317, 3) := dk_184 1 61 (dk_at dksX4_leastBoth_3 3 rfl rfl)
theorem dX4_leastBoth_76 : decode cX4_leastBoth 76 = .ok (.invokestatic 317, 3) := dk_184 1 61 (dk_at dksX4_leastBoth_3 6 rfl rfl)
theorem dX4_leastBoth_79 : decode cX4_leastBoth 79 = .ok (.istore 7, 2) := dk_54 7 (dk_at dksX4_leastBoth_3 9 rfl rfl)
theorem dX4_leastBoth_81 : decode cX4_leastBoth 81 = .ok (.iload 7, 2) := dk_21 7 (dk_at dksX4_leastBoth_3 11 rfl rfl)
theorem dX4_leastBoth_83 : decode cX4_leastBoth 83 = .ok (.iconst 1, 1) := dk_4 (dk_at dksX4_leastBoth_3 13 rfl rfl)
theorem dX4_leastBoth_84 : decode cX4_leastBoth 84 = .ok (.iadd, 1) := dk_96 (dk_at dksX4_leastBoth_3 14 rfl rfl)
theorem dX4_leastBoth_85 : decode cX4_leastBoth 85 = .ok (.iload 4, 2) := dk_21 4 (dk_at dksX4_leastBoth_3 15 rfl rfl)
theorem dX4_leastBoth_87 : decode cX4_leastBoth 87 = .ok (.if_icmp .ge 10, 3) := dk_162 0 10 (dk_at dksX4_leastBoth_3 17 rfl rfl)
theorem dX4_leastBoth_90 : decode cX4_leastBoth 90 = .ok (.iload 7, 2) := dk_21 7 (dk_at dksX4_leastBoth_3 20 rfl rfl)
theorem dX4_leastBoth_92 : decode cX4_leastBoth 92 = .ok (.iconst 1, 1) := dk_4 (dk_at dksX4_leastBoth_3 22 rfl rfl)
theorem dX4_leastBoth_93 : decode cX4_leastBoth 93 = .ok (.iadd, 1) := dk_96 (dk_at dksX4_leastBoth_3 23 rfl rfl)
theorem dX4_leastBoth_94 : decode cX4_leastBoth 94 = .ok (.goto 5, 3) := dk_167 0 5 (dk_at dksX4_leastBoth_4 0 rfl rfl)
theorem dX4_leastBoth_97 : decode cX4_leastBoth 97 = .ok (.iload 4, 2) := dk_21 4 (dk_at dksX4_leastBoth_4 3 rfl rfl)
theorem dX4_leastBoth_99 : decode cX4_leastBoth 99 = .ok (.istore 4, 2) := dk_54 4 (dk_at dksX4_leastBoth_4 5 rfl rfl)
theorem dX4_leastBoth_101 : decode cX4_leastBoth 101 = .ok (.iinc 6 1, 3) := dk_132 6 1 (dk_at dksX4_leastBoth_4 7 rfl rfl)
theorem dX4_leastBoth_104 : decode cX4_leastBoth 104 = .ok (.goto (-88), 3) := dk_167 255 168 (dk_at dksX4_leastBoth_4 10 rfl rfl)
theorem dX4_leastBoth_107 : decode cX4_leastBoth 107 = .ok (.iinc 5 1, 3) := dk_132 5 1 (dk_at dksX4_leastBoth_4 13 rfl rfl)
theorem dX4_leastBoth_110 : decode cX4_leastBoth 110 = .ok (.goto (-103), 3) := dk_167 255 153 (dk_at dksX4_leastBoth_4 16 rfl rfl)
theorem dX4_leastBoth_113 : decode cX4_leastBoth 113 = .ok (.iload 4, 2) := dk_21 4 (dk_at dksX4_leastBoth_4 19 rfl rfl)
theorem dX4_leastBoth_115 : decode cX4_leastBoth 115 = .ok (.ireturn, 1) := dk_172 (dk_at dksX4_leastBoth_4 21 rfl rfl)
abbrev cX4_bothOf : ByteArray := prog_21_method_72_code
def yX4_bothOf : MethodName := ⟨RX4, "bothOf", "(II)I"⟩
def dkwX4_bothOf_0 : List UInt8 := [5, 27, 104, 28, 96, 5, 162, 0, 7, 3, 167, 0, 13, 42, 180, 0, 82, 5, 27, 104, 28, 96, 46, 172]
abbrev dktX4_bothOf_0 : List UInt8 := dkwX4_bothOf_0 ++ []
theorem dksX4_bothOf_0 : cX4_bothOf.data.toList.drop 0 = dktX4_bothOf_0 := by decide +kernel
theorem dX4_bothOf_0 : decode cX4_bothOf 0 = .ok (.iconst 2, 1) := dk_5 (dk_at dksX4_bothOf_0 0 rfl rfl)
theorem dX4_bothOf_1 : decode cX4_bothOf 1 = .ok (.iload_n 1, 1) := dk_27 (dk_at dksX4_bothOf_0 1 rfl rfl)
theorem dX4_bothOf_2 : decode cX4_bothOf 2 = .ok (.imul, 1) := dk_104 (dk_at dksX4_bothOf_0 2 rfl rfl)
theorem dX4_bothOf_3 : decode cX4_bothOf 3 = .ok (.iload_n 2, 1) := dk_28 (dk_at dksX4_bothOf_0 3 rfl rfl)
theorem dX4_bothOf_4 : decode cX4_bothOf 4 = .ok (.iadd, 1) := dk_96 (dk_at dksX4_bothOf_0 4 rfl rfl)
theorem dX4_bothOf_5 : decode cX4_bothOf 5 = .ok (.iconst 2, 1) := dk_5 (dk_at dksX4_bothOf_0 5 rfl rfl)
theorem dX4_bothOf_6 : decode cX4_bothOf 6 = .ok (.if_icmp .ge 7, 3) := dk_162 0 7 (dk_at dksX4_bothOf_0 6 rfl rfl)
theorem dX4_bothOf_9 : decode cX4_bothOf 9 = .ok (.iconst 0, 1) := dk_3 (dk_at dksX4_bothOf_0 9 rfl rfl)
theorem dX4_bothOf_10 : decode cX4_bothOf 10 = .ok (.goto 13, 3) := dk_167 0 13 (dk_at dksX4_bothOf_0 10 rfl rfl)
theorem dX4_bothOf_13 : decode cX4_bothOf 13 = .ok (.aload_n 0, 1) := dk_42 (dk_at dksX4_bothOf_0 13 rfl rfl)
theorem dX4_bothOf_14 : decode cX4_bothOf 14 = .ok (.getfield 82, 3) := dk_180 0 82 (dk_at dksX4_bothOf_0 14 rfl rfl)
theorem dX4_bothOf_17 : decode cX4_bothOf 17 = .ok (.iconst 2, 1) := dk_5 (dk_at dksX4_bothOf_0 17 rfl rfl)
theorem dX4_bothOf_18 : decode cX4_bothOf 18 = .ok (.iload_n 1, 1) := dk_27 (dk_at dksX4_bothOf_0 18 rfl rfl)
theorem dX4_bothOf_19 : decode cX4_bothOf 19 = .ok (.imul, 1) := dk_104 (dk_at dksX4_bothOf_0 19 rfl rfl)
theorem dX4_bothOf_20 : decode cX4_bothOf 20 = .ok (.iload_n 2, 1) := dk_28 (dk_at dksX4_bothOf_0 20 rfl rfl)
theorem dX4_bothOf_21 : decode cX4_bothOf 21 = .ok (.iadd, 1) := dk_96 (dk_at dksX4_bothOf_0 21 rfl rfl)
theorem dX4_bothOf_22 : decode cX4_bothOf 22 = .ok (.iaload, 1) := dk_46 (dk_at dksX4_bothOf_0 22 rfl rfl)
theorem dX4_bothOf_23 : decode cX4_bothOf 23 = .ok (.ireturn, 1) := dk_172 (dk_at dksX4_bothOf_0 23 rfl rfl)
abbrev cX4_needs : ByteArray := prog_21_method_76_code
def yX4_needs : MethodName := ⟨RX4, "needs", "(III)I"⟩
def dkwX4_needs_1 : List UInt8 := [27, 184, 0, 244, 29, 182, 1, 64, 167, 0, 15, 42, 27, 184, 0, 244, 28, 184, 0, 244, 182, 1, 58, 172]
abbrev dktX4_needs_1 : List UInt8 := dkwX4_needs_1 ++ []
def dkwX4_needs_0 : List UInt8 := [27, 184, 0, 244, 28, 184, 0, 244, 96, 29, 96, 5, 162, 0, 5, 3, 172, 27, 28, 126, 153, 0, 15, 42]
abbrev dktX4_needs_0 : List UInt8 := dkwX4_needs_0 ++ dktX4_needs_1
theorem dksX4_needs_0 : cX4_needs.data.toList.drop 0 = dktX4_needs_0 := by decide +kernel
theorem dksX4_needs_1 : cX4_needs.data.toList.drop 24 = dktX4_needs_1 := dk_seg dksX4_needs_0 24 rfl rfl
theorem dX4_needs_0 : decode cX4_needs 0 = .ok (.iload_n 1, 1) := dk_27 (dk_at dksX4_needs_0 0 rfl rfl)
theorem dX4_needs_1 : decode cX4_needs 1 = .ok (.invokestatic 244, 3) := dk_184 0 244 (dk_at dksX4_needs_0 1 rfl rfl)
theorem dX4_needs_4 : decode cX4_needs 4 = .ok (.iload_n 2, 1) := dk_28 (dk_at dksX4_needs_0 4 rfl rfl)
theorem dX4_needs_5 : decode cX4_needs 5 = .ok (.invokestatic 244, 3) := dk_184 0 244 (dk_at dksX4_needs_0 5 rfl rfl)
theorem dX4_needs_8 : decode cX4_needs 8 = .ok (.iadd, 1) := dk_96 (dk_at dksX4_needs_0 8 rfl rfl)
theorem dX4_needs_9 : decode cX4_needs 9 = .ok (.iload_n 3, 1) := dk_29 (dk_at dksX4_needs_0 9 rfl rfl)
theorem dX4_needs_10 : decode cX4_needs 10 = .ok (.iadd, 1) := dk_96 (dk_at dksX4_needs_0 10 rfl rfl)
theorem dX4_needs_11 : decode cX4_needs 11 = .ok (.iconst 2, 1) := dk_5 (dk_at dksX4_needs_0 11 rfl rfl)
theorem dX4_needs_12 : decode cX4_needs 12 = .ok (.if_icmp .ge 5, 3) := dk_162 0 5 (dk_at dksX4_needs_0 12 rfl rfl)
theorem dX4_needs_15 : decode cX4_needs 15 = .ok (.iconst 0, 1) := dk_3 (dk_at dksX4_needs_0 15 rfl rfl)
theorem dX4_needs_16 : decode cX4_needs 16 = .ok (.ireturn, 1) := dk_172 (dk_at dksX4_needs_0 16 rfl rfl)
theorem dX4_needs_17 : decode cX4_needs 17 = .ok (.iload_n 1, 1) := dk_27 (dk_at dksX4_needs_0 17 rfl rfl)
theorem dX4_needs_18 : decode cX4_needs 18 = .ok (.iload_n 2, 1) := dk_28 (dk_at dksX4_needs_0 18 rfl rfl)
theorem dX4_needs_19 : decode cX4_needs 19 = .ok (.iand, 1) := dk_126 (dk_at dksX4_needs_0 19 rfl rfl)
theorem dX4_needs_20 : decode cX4_needs 20 = .ok (.ifCond .eq 15, 3) := dk_153 0 15 (dk_at dksX4_needs_0 20 rfl rfl)
theorem dX4_needs_23 : decode cX4_needs 23 = .ok (.aload_n 0, 1) := dk_42 (dk_at dksX4_needs_0 23 rfl rfl)
theorem dX4_needs_24 : decode cX4_needs 24 = .ok (.iload_n 1, 1) := dk_27 (dk_at dksX4_needs_1 0 rfl rfl)
theorem dX4_needs_25 : decode cX4_needs 25 = .ok (.invokestatic 244, 3) := dk_184 0 244 (dk_at dksX4_needs_1 1 rfl rfl)
theorem dX4_needs_28 : decode cX4_needs 28 = .ok (.iload_n 3, 1) := dk_29 (dk_at dksX4_needs_1 4 rfl rfl)
theorem dX4_needs_29 : decode cX4_needs 29 = .ok (.invokevirtual 320, 3) := dk_182 1 64 (dk_at dksX4_needs_1 5 rfl rfl)
theorem dX4_needs_32 : decode cX4_needs 32 = .ok (.goto 15, 3) := dk_167 0 15 (dk_at dksX4_needs_1 8 rfl rfl)
theorem dX4_needs_35 : decode cX4_needs 35 = .ok (.aload_n 0, 1) := dk_42 (dk_at dksX4_needs_1 11 rfl rfl)
theorem dX4_needs_36 : decode cX4_needs 36 = .ok (.iload_n 1, 1) := dk_27 (dk_at dksX4_needs_1 12 rfl rfl)
theorem dX4_needs_37 : decode cX4_needs 37 = .ok (.invokestatic 244, 3) := dk_184 0 244 (dk_at dksX4_needs_1 13 rfl rfl)
theorem dX4_needs_40 : decode cX4_needs 40 = .ok (.iload_n 2, 1) := dk_28 (dk_at dksX4_needs_1 16 rfl rfl)
theorem dX4_needs_41 : decode cX4_needs 41 = .ok (.invokestatic 244, 3) := dk_184 0 244 (dk_at dksX4_needs_1 17 rfl rfl)
theorem dX4_needs_44 : decode cX4_needs 44 = .ok (.invokevirtual 314, 3) := dk_182 1 58 (dk_at dksX4_needs_1 20 rfl rfl)
theorem dX4_needs_47 : decode cX4_needs 47 = .ok (.ireturn, 1) := dk_172 (dk_at dksX4_needs_1 23 rfl rfl)
abbrev cX4_bestLeft : ByteArray := prog_21_method_91_code
def yX4_bestLeft : MethodName := ⟨RX4, "bestLeft", "(I)I"⟩
def dkwX4_bestLeft_0 : List UInt8 := [42, 3, 181, 0, 1, 42, 27, 182, 1, 67, 153, 0, 11, 42, 27, 182, 1, 90, 167, 0, 4, 2, 172]
abbrev dktX4_bestLeft_0 : List UInt8 := dkwX4_bestLeft_0 ++ []
theorem dksX4_bestLeft_0 : cX4_bestLeft.data.toList.drop 0 = dktX4_bestLeft_0 := by decide +kernel
theorem dX4_bestLeft_0 : decode cX4_bestLeft 0 = .ok (.aload_n 0, 1) := dk_42 (dk_at dksX4_bestLeft_0 0 rfl rfl)
theorem dX4_bestLeft_1 : decode cX4_bestLeft 1 = .ok (.iconst 0, 1) := dk_3 (dk_at dksX4_bestLeft_0 1 rfl rfl)
theorem dX4_bestLeft_2 : decode cX4_bestLeft 2 = .ok (.putfield 1, 3) := dk_181 0 1 (dk_at dksX4_bestLeft_0 2 rfl rfl)
theorem dX4_bestLeft_5 : decode cX4_bestLeft 5 = .ok (.aload_n 0, 1) := dk_42 (dk_at dksX4_bestLeft_0 5 rfl rfl)
theorem dX4_bestLeft_6 : decode cX4_bestLeft 6 = .ok (.iload_n 1, 1) := dk_27 (dk_at dksX4_bestLeft_0 6 rfl rfl)
theorem dX4_bestLeft_7 : decode cX4_bestLeft 7 = .ok (.invokevirtual 323, 3) := dk_182 1 67 (dk_at dksX4_bestLeft_0 7 rfl rfl)
theorem dX4_bestLeft_10 : decode cX4_bestLeft 10 = .ok (.ifCond .eq 11, 3) := dk_153 0 11 (dk_at dksX4_bestLeft_0 10 rfl rfl)
theorem dX4_bestLeft_13 : decode cX4_bestLeft 13 = .ok (.aload_n 0, 1) := dk_42 (dk_at dksX4_bestLeft_0 13 rfl rfl)
theorem dX4_bestLeft_14 : decode cX4_bestLeft 14 = .ok (.iload_n 1, 1) := dk_27 (dk_at dksX4_bestLeft_0 14 rfl rfl)
theorem dX4_bestLeft_15 : decode cX4_bestLeft 15 = .ok (.invokevirtual 346, 3) := dk_182 1 90 (dk_at dksX4_bestLeft_0 15 rfl rfl)
theorem dX4_bestLeft_18 : decode cX4_bestLeft 18 = .ok (.goto 4, 3) := dk_167 0 4 (dk_at dksX4_bestLeft_0 18 rfl rfl)
theorem dX4_bestLeft_21 : decode cX4_bestLeft 21 = .ok (.iconst (-1), 1) := dk_2 (dk_at dksX4_bestLeft_0 21 rfl rfl)
theorem dX4_bestLeft_22 : decode cX4_bestLeft 22 = .ok (.ireturn, 1) := dk_172 (dk_at dksX4_bestLeft_0 22 rfl rfl)
abbrev cX4_best : ByteArray := prog_21_method_90_code
def yX4_best : MethodName := ⟨RX4, "best", "(I)I"⟩
def dkwX4_best_6 : List UInt8 := [167, 255, 167, 132, 4, 1, 167, 255, 145, 16, 254, 172]
abbrev dktX4_best_6 : List UInt8 := dkwX4_best_6 ++ []
def dkwX4_best_5 : List UInt8 := [21, 7, 181, 1, 84, 21, 5, 172, 21, 7, 21, 6, 100, 21, 6, 126, 54, 7, 167, 255, 197, 132, 5, 1]
abbrev dktX4_best_5 : List UInt8 := dkwX4_best_5 ++ dktX4_best_6
def dkwX4_best_4 : List UInt8 := [184, 0, 244, 21, 4, 160, 0, 27, 42, 27, 21, 5, 21, 7, 182, 1, 87, 28, 4, 100, 160, 0, 12, 42]
abbrev dktX4_best_4 : List UInt8 := dkwX4_best_4 ++ dktX4_best_5
def dkwX4_best_3 : List UInt8 := [21, 6, 116, 126, 54, 7, 21, 7, 153, 0, 60, 21, 5, 184, 0, 244, 21, 4, 160, 0, 50, 21, 7]
abbrev dktX4_best_3 : List UInt8 := dkwX4_best_3 ++ dktX4_best_4
def dkwX4_best_2 : List UInt8 := [163, 0, 104, 4, 54, 5, 21, 5, 29, 162, 0, 89, 29, 4, 100, 21, 5, 2, 130, 126, 54, 6, 21, 6]
abbrev dktX4_best_2 : List UInt8 := dkwX4_best_2 ++ dktX4_best_3
def dkwX4_best_1 : List UInt8 := [172, 4, 42, 180, 0, 32, 27, 46, 120, 62, 4, 54, 4, 5, 21, 4, 104, 42, 180, 0, 32, 27, 46]
abbrev dktX4_best_1 : List UInt8 := dkwX4_best_1 ++ dktX4_best_2
def dkwX4_best_0 : List UInt8 := [42, 27, 182, 1, 81, 61, 42, 16, 254, 181, 1, 84, 28, 153, 0, 9, 28, 16, 99, 161, 0, 6, 16, 254]
abbrev dktX4_best_0 : List UInt8 := dkwX4_best_0 ++ dktX4_best_1
theorem dksX4_best_0 : cX4_best.data.toList.drop 0 = dktX4_best_0 := by decide +kernel
theorem dksX4_best_1 : cX4_best.data.toList.drop 24 = dktX4_best_1 := dk_seg dksX4_best_0 24 rfl rfl
theorem dksX4_best_2 : cX4_best.data.toList.drop 47 = dktX4_best_2 := dk_seg dksX4_best_1 23 rfl rfl
theorem dksX4_best_3 : cX4_best.data.toList.drop 71 = dktX4_best_3 := dk_seg dksX4_best_2 24 rfl rfl
theorem dksX4_best_4 : cX4_best.data.toList.drop 94 = dktX4_best_4 := dk_seg dksX4_best_3 23 rfl rfl
theorem dksX4_best_5 : cX4_best.data.toList.drop 118 = dktX4_best_5 := dk_seg dksX4_best_4 24 rfl rfl
theorem dksX4_best_6 : cX4_best.data.toList.drop 142 = dktX4_best_6 := dk_seg dksX4_best_5 24 rfl rfl
theorem dX4_best_0 : decode cX4_best 0 = .ok (.aload_n 0, 1) := dk_42 (dk_at dksX4_best_0 0 rfl rfl)
theorem dX4_best_1 : decode cX4_best 1 = .ok (.iload_n 1, 1) := dk_27 (dk_at dksX4_best_0 1 rfl rfl)
theorem dX4_best_2 : decode cX4_best 2 = .ok (.invokevirtual 337, 3) := dk_182 1 81 (dk_at dksX4_best_0 2 rfl rfl)
theorem dX4_best_5 : decode cX4_best 5 = .ok (.istore_n 2, 1) := dk_61 (dk_at dksX4_best_0 5 rfl rfl)
theorem dX4_best_6 : decode cX4_best 6 = .ok (.aload_n 0, 1) := dk_42 (dk_at dksX4_best_0 6 rfl rfl)
theorem dX4_best_7 : decode cX4_best 7 = .ok (.bipush (-2), 2) := dk_16 254 (dk_at dksX4_best_0 7 rfl rfl)
theorem dX4_best_9 : decode cX4_best 9 = .ok (.putfield 340, 3) := dk_181 1 84 (dk_at dksX4_best_0 9 rfl rfl)
theorem dX4_best_12 : decode cX4_best 12 = .ok (.iload_n 2, 1) := dk_28 (dk_at dksX4_best_0 12 rfl rfl)
theorem dX4_best_13 : decode cX4_best 13 = .ok (.ifCond .eq 9, 3) := dk_153 0 9 (dk_at dksX4_best_0 13 rfl rfl)
theorem dX4_best_16 : decode cX4_best 16 = .ok (.iload_n 2, 1) := dk_28 (dk_at dksX4_best_0 16 rfl rfl)
theorem dX4_best_17 : decode cX4_best 17 = .ok (.bipush 99, 2) := dk_16 99 (dk_at dksX4_best_0 17 rfl rfl)
theorem dX4_best_19 : decode cX4_best 19 = .ok (.if_icmp .lt 6, 3) := dk_161 0 6 (dk_at dksX4_best_0 19 rfl rfl)
theorem dX4_best_22 : decode cX4_best 22 = .ok (.bipush (-2), 2) := dk_16 254 (dk_at dksX4_best_0 22 rfl rfl)
theorem dX4_best_24 : decode cX4_best 24 = .ok (.ireturn, 1) := dk_172 (dk_at dksX4_best_1 0 rfl rfl)
theorem dX4_best_25 : decode cX4_best 25 = .ok (.iconst 1, 1) := dk_4 (dk_at dksX4_best_1 1 rfl rfl)
theorem dX4_best_26 : decode cX4_best 26 = .ok (.aload_n 0, 1) := dk_42 (dk_at dksX4_best_1 2 rfl rfl)
theorem dX4_best_27 : decode cX4_best 27 = .ok (.getfield 32, 3) := dk_180 0 32 (dk_at dksX4_best_1 3 rfl rfl)
theorem dX4_best_30 : decode cX4_best 30 = .ok (.iload_n 1, 1) := dk_27 (dk_at dksX4_best_1 6 rfl rfl)
theorem dX4_best_31 : decode cX4_best 31 = .ok (.iaload, 1) := dk_46 (dk_at dksX4_best_1 7 rfl rfl)
theorem dX4_best_32 : decode cX4_best 32 = .ok (.ishl, 1) := dk_120 (dk_at dksX4_best_1 8 rfl rfl)
theorem dX4_best_33 : decode cX4_best 33 = .ok (.istore_n 3, 1) := dk_62 (dk_at dksX4_best_1 9 rfl rfl)
theorem dX4_best_34 : decode cX4_best 34 = .ok (.iconst 1, 1) := dk_4 (dk_at dksX4_best_1 10 rfl rfl)
theorem dX4_best_35 : decode cX4_best 35 = .ok (.istore 4, 2) := dk_54 4 (dk_at dksX4_best_1 11 rfl rfl)
theorem dX4_best_37 : decode cX4_best 37 = .ok (.iconst 2, 1) := dk_5 (dk_at dksX4_best_1 13 rfl rfl)
theorem dX4_best_38 : decode cX4_best 38 = .ok (.iload 4, 2) := dk_21 4 (dk_at dksX4_best_1 14 rfl rfl)
theorem dX4_best_40 : decode cX4_best 40 = .ok (.imul, 1) := dk_104 (dk_at dksX4_best_1 16 rfl rfl)
theorem dX4_best_41 : decode cX4_best 41 = .ok (.aload_n 0, 1) := dk_42 (dk_at dksX4_best_1 17 rfl rfl)
theorem dX4_best_42 : decode cX4_best 42 = .ok (.getfield 32, 3) := dk_180 0 32 (dk_at dksX4_best_1 18 rfl rfl)
theorem dX4_best_45 : decode cX4_best 45 = .ok (.iload_n 1, 1) := dk_27 (dk_at dksX4_best_1 21 rfl rfl)
theorem dX4_best_46 : decode cX4_best 46 = .ok (.iaload, 1) := dk_46 (dk_at dksX4_best_1 22 rfl rfl)
theorem dX4_best_47 : decode cX4_best 47 = .ok (.if_icmp .gt 104, 3) := dk_163 0 104 (dk_at dksX4_best_2 0 rfl rfl)
theorem dX4_best_50 : decode cX4_best 50 = .ok (.iconst 1, 1) := dk_4 (dk_at dksX4_best_2 3 rfl rfl)
theorem dX4_best_51 : decode cX4_best 51 = .ok (.istore 5, 2) := dk_54 5 (dk_at dksX4_best_2 4 rfl rfl)
theorem dX4_best_53 : decode cX4_best 53 = .ok (.iload 5, 2) := dk_21 5 (dk_at dksX4_best_2 6 rfl rfl)
theorem dX4_best_55 : decode cX4_best 55 = .ok (.iload_n 3, 1) := dk_29 (dk_at dksX4_best_2 8 rfl rfl)
theorem dX4_best_56 : decode cX4_best 56 = .ok (.if_icmp .ge 89, 3) := dk_162 0 89 (dk_at dksX4_best_2 9 rfl rfl)
theorem dX4_best_59 : decode cX4_best 59 = .ok (.iload_n 3, 1) := dk_29 (dk_at dksX4_best_2 12 rfl rfl)
theorem dX4_best_60 : decode cX4_best 60 = .ok (.iconst 1, 1) := dk_4 (dk_at dksX4_best_2 13 rfl rfl)
theorem dX4_best_61 : decode cX4_best 61 = .ok (.isub, 1) := dk_100 (dk_at dksX4_best_2 14 rfl rfl)
theorem dX4_best_62 : decode cX4_best 62 = .ok (.iload 5, 2) := dk_21 5 (dk_at dksX4_best_2 15 rfl rfl)
theorem dX4_best_64 : decode cX4_best 64 = .ok (.iconst (-1), 1) := dk_2 (dk_at dksX4_best_2 17 rfl rfl)
theorem dX4_best_65 : decode cX4_best 65 = .ok (.ixor, 1) := dk_130 (dk_at dksX4_best_2 18 rfl rfl)
theorem dX4_best_66 : decode cX4_best 66 = .ok (.iand, 1) := dk_126 (dk_at dksX4_best_2 19 rfl rfl)
theorem dX4_best_67 : decode cX4_best 67 = .ok (.istore 6, 2) := dk_54 6 (dk_at dksX4_best_2 20 rfl rfl)
theorem dX4_best_69 : decode cX4_best 69 = .ok (.iload 6, 2) := dk_21 6 (dk_at dksX4_best_2 22 rfl rfl)
theorem dX4_best_71 : decode cX4_best 71 = .ok (.iload 6, 2) := dk_21 6 (dk_at dksX4_best_3 0 rfl rfl)
theorem dX4_best_73 : decode cX4_best 73 = .ok (.ineg, 1) := dk_116 (dk_at dksX4_best_3 2 rfl rfl)
theorem dX4_best_74 : decode cX4_best 74 = .ok (.iand, 1) := dk_126 (dk_at dksX4_best_3 3 rfl rfl)
theorem dX4_best_75 : decode cX4_best 75 = .ok (.istore 7, 2) := dk_54 7 (dk_at dksX4_best_3 4 rfl rfl)
theorem dX4_best_77 : decode cX4_best 77 = .ok (.iload 7, 2) := dk_21 7 (dk_at dksX4_best_3 6 rfl rfl)
theorem dX4_best_79 : decode cX4_best 79 = .ok (.ifCond .eq 60, 3) := dk_153 0 60 (dk_at dksX4_best_3 8 rfl rfl)
theorem dX4_best_82 : decode cX4_best 82 = .ok (.iload 5, 2) := dk_21 5 (dk_at dksX4_best_3 11 rfl rfl)
theorem dX4_best_84 : decode cX4_best 84 = .ok (.invokestatic 244, 3) := dk_184 0 244 (dk_at dksX4_best_3 13 rfl rfl)
theorem dX4_best_87 : decode cX4_best 87 = .ok (.iload 4, 2) := dk_21 4 (dk_at dksX4_best_3 16 rfl rfl)
theorem dX4_best_89 : decode cX4_best 89 = .ok (.if_icmp .ne 50, 3) := dk_160 0 50 (dk_at dksX4_best_3 18 rfl rfl)
theorem dX4_best_92 : decode cX4_best 92 = .ok (.iload 7, 2) := dk_21 7 (dk_at dksX4_best_3 21 rfl rfl)
theorem dX4_best_94 : decode cX4_best 94 = .ok (.invokestatic 244, 3) := dk_184 0 244 (dk_at dksX4_best_4 0 rfl rfl)
theorem dX4_best_97 : decode cX4_best 97 = .ok (.iload 4, 2) := dk_21 4 (dk_at dksX4_best_4 3 rfl rfl)
theorem dX4_best_99 : decode cX4_best 99 = .ok (.if_icmp .ne 27, 3) := dk_160 0 27 (dk_at dksX4_best_4 5 rfl rfl)
theorem dX4_best_102 : decode cX4_best 102 = .ok (.aload_n 0, 1) := dk_42 (dk_at dksX4_best_4 8 rfl rfl)
theorem dX4_best_103 : decode cX4_best 103 = .ok (.iload_n 1, 1) := dk_27 (dk_at dksX4_best_4 9 rfl rfl)
theorem dX4_best_104 : decode cX4_best 104 = .ok (.iload 5, 2) := dk_21 5 (dk_at dksX4_best_4 10 rfl rfl)
theorem dX4_best_106 : decode cX4_best 106 = .ok (.iload 7, 2) := dk_21 7 (dk_at dksX4_best_4 12 rfl rfl)
theorem dX4_best_108 : decode cX4_best 108 = .ok (.invokevirtual 343, 3) := dk_182 1 87 (dk_at dksX4_best_4 14 rfl rfl)
theorem dX4_best_111 : decode cX4_best 111 = .ok (.iload_n 2, 1) := dk_28 (dk_at dksX4_best_4 17 rfl rfl)
theorem dX4_best_112 : decode cX4_best 112 = .ok (.iconst 1, 1) := dk_4 (dk_at dksX4_best_4 18 rfl rfl)
theorem dX4_best_113 : decode cX4_best 113 = .ok (.isub, 1) := dk_100 (dk_at dksX4_best_4 19 rfl rfl)
theorem dX4_best_114 : decode cX4_best 114 = .ok (.if_icmp .ne 12, 3) := dk_160 0 12 (dk_at dksX4_best_4 20 rfl rfl)
theorem dX4_best_117 : decode cX4_best 117 = .ok (.aload_n 0, 1) := dk_42 (dk_at dksX4_best_4 23 rfl rfl)
theorem dX4_best_118 : decode cX4_best 118 = .ok (.iload 7, 2) := dk_21 7 (dk_at dksX4_best_5 0 rfl rfl)
theorem dX4_best_120 : decode cX4_best 120 = .ok (.putfield 340, 3) := dk_181 1 84 (dk_at dksX4_best_5 2 rfl rfl)
theorem dX4_best_123 : decode cX4_best 123 = .ok (.iload 5, 2) := dk_21 5 (dk_at dksX4_best_5 5 rfl rfl)
theorem dX4_best_125 : decode cX4_best 125 = .ok (.ireturn, 1) := dk_172 (dk_at dksX4_best_5 7 rfl rfl)
theorem dX4_best_126 : decode cX4_best 126 = .ok (.iload 7, 2) := dk_21 7 (dk_at dksX4_best_5 8 rfl rfl)
theorem dX4_best_128 : decode cX4_best 128 = .ok (.iload 6, 2) := dk_21 6 (dk_at dksX4_best_5 10 rfl rfl)
theorem dX4_best_130 : decode cX4_best 130 = .ok (.isub, 1) := dk_100 (dk_at dksX4_best_5 12 rfl rfl)
theorem dX4_best_131 : decode cX4_best 131 = .ok (.iload 6, 2) := dk_21 6 (dk_at dksX4_best_5 13 rfl rfl)
theorem dX4_best_133 : decode cX4_best 133 = .ok (.iand, 1) := dk_126 (dk_at dksX4_best_5 15 rfl rfl)
theorem dX4_best_134 : decode cX4_best 134 = .ok (.istore 7, 2) := dk_54 7 (dk_at dksX4_best_5 16 rfl rfl)
theorem dX4_best_136 : decode cX4_best 136 = .ok (.goto (-59), 3) := dk_167 255 197 (dk_at dksX4_best_5 18 rfl rfl)
theorem dX4_best_139 : decode cX4_best 139 = .ok (.iinc 5 1, 3) := dk_132 5 1 (dk_at dksX4_best_5 21 rfl rfl)
theorem dX4_best_142 : decode cX4_best 142 = .ok (.goto (-89), 3) := dk_167 255 167 (dk_at dksX4_best_6 0 rfl rfl)
theorem dX4_best_145 : decode cX4_best 145 = .ok (.iinc 4 1, 3) := dk_132 4 1 (dk_at dksX4_best_6 3 rfl rfl)
theorem dX4_best_148 : decode cX4_best 148 = .ok (.goto (-111), 3) := dk_167 255 145 (dk_at dksX4_best_6 6 rfl rfl)
theorem dX4_best_151 : decode cX4_best 151 = .ok (.bipush (-2), 2) := dk_16 254 (dk_at dksX4_best_6 9 rfl rfl)
theorem dX4_best_153 : decode cX4_best 153 = .ok (.ireturn, 1) := dk_172 (dk_at dksX4_best_6 11 rfl rfl)
abbrev cX4_behind : ByteArray := prog_21_method_89_code
def yX4_behind : MethodName := ⟨RX4, "behind", "(III)I"⟩
def dkwX4_behind_7 : List UInt8 := [182, 1, 78, 184, 1, 61, 184, 1, 61, 172]
abbrev dktX4_behind_7 : List UInt8 := dkwX4_behind_7 ++ []
def dkwX4_behind_6 : List UInt8 := [21, 4, 28, 126, 21, 5, 29, 126, 3, 182, 1, 78, 42, 21, 4, 29, 126, 21, 5, 28, 126, 3]
abbrev dktX4_behind_6 : List UInt8 := dkwX4_behind_6 ++ dktX4_behind_7
def dkwX4_behind_5 : List UInt8 := [21, 4, 21, 6, 126, 21, 5, 21, 6, 126, 42, 180, 0, 13, 17, 2, 157, 27, 96, 46, 182, 1, 78, 42]
abbrev dktX4_behind_5 : List UInt8 := dkwX4_behind_5 ++ dktX4_behind_6
def dkwX4_behind_4 : List UInt8 := [21, 4, 29, 126, 184, 0, 244, 21, 5, 28, 126, 184, 0, 244, 96, 21, 7, 160, 0, 6, 16, 99, 172, 42]
abbrev dktX4_behind_4 : List UInt8 := dkwX4_behind_4 ++ dktX4_behind_5
def dkwX4_behind_3 : List UInt8 := [159, 0, 43, 21, 4, 28, 126, 184, 0, 244, 21, 5, 29, 126, 184, 0, 244, 96, 21, 7, 159, 0, 23]
abbrev dktX4_behind_3 : List UInt8 := dkwX4_behind_3 ++ dktX4_behind_4
def dkwX4_behind_2 : List UInt8 := [21, 6, 126, 184, 0, 244, 96, 42, 180, 0, 13, 17, 2, 157, 27, 96, 46, 96, 54, 8, 21, 8, 21, 7]
abbrev dktX4_behind_2 : List UInt8 := dkwX4_behind_2 ++ dktX4_behind_3
def dkwX4_behind_1 : List UInt8 := [28, 29, 128, 2, 130, 54, 6, 42, 27, 182, 1, 72, 54, 7, 21, 4, 21, 6, 126, 184, 0, 244, 21, 5]
abbrev dktX4_behind_1 : List UInt8 := dkwX4_behind_1 ++ dktX4_behind_2
def dkwX4_behind_0 : List UInt8 := [42, 180, 0, 13, 17, 2, 149, 27, 96, 46, 54, 4, 42, 180, 0, 13, 17, 2, 153, 27, 96, 46, 54, 5]
abbrev dktX4_behind_0 : List UInt8 := dkwX4_behind_0 ++ dktX4_behind_1
theorem dksX4_behind_0 : cX4_behind.data.toList.drop 0 = dktX4_behind_0 := by decide +kernel
theorem dksX4_behind_1 : cX4_behind.data.toList.drop 24 = dktX4_behind_1 := dk_seg dksX4_behind_0 24 rfl rfl
theorem dksX4_behind_2 : cX4_behind.data.toList.drop 48 = dktX4_behind_2 := dk_seg dksX4_behind_1 24 rfl rfl
theorem dksX4_behind_3 : cX4_behind.data.toList.drop 72 = dktX4_behind_3 := dk_seg dksX4_behind_2 24 rfl rfl
theorem dksX4_behind_4 : cX4_behind.data.toList.drop 95 = dktX4_behind_4 := dk_seg dksX4_behind_3 23 rfl rfl
theorem dksX4_behind_5 : cX4_behind.data.toList.drop 119 = dktX4_behind_5 := dk_seg dksX4_behind_4 24 rfl rfl
theorem dksX4_behind_6 : cX4_behind.data.toList.drop 143 = dktX4_behind_6 := dk_seg dksX4_behind_5 24 rfl rfl
theorem dksX4_behind_7 : cX4_behind.data.toList.drop 165 = dktX4_behind_7 := dk_seg dksX4_behind_6 22 rfl rfl
theorem dX4_behind_0 : decode cX4_behind 0 = .ok (.aload_n 0, 1) := dk_42 (dk_at dksX4_behind_0 0 rfl rfl)
theorem dX4_behind_1 : decode cX4_behind 1 = .ok (.getfield 13, 3) := dk_180 0 13 (dk_at dksX4_behind_0 1 rfl rfl)
theorem dX4_behind_4 : decode cX4_behind 4 = .ok (.sipush 661, 3) := dk_17 2 149 (dk_at dksX4_behind_0 4 rfl rfl)
theorem dX4_behind_7 : decode cX4_behind 7 = .ok (.iload_n 1, 1) := dk_27 (dk_at dksX4_behind_0 7 rfl rfl)
theorem dX4_behind_8 : decode cX4_behind 8 = .ok (.iadd, 1) := dk_96 (dk_at dksX4_behind_0 8 rfl rfl)
theorem dX4_behind_9 : decode cX4_behind 9 = .ok (.iaload, 1) := dk_46 (dk_at dksX4_behind_0 9 rfl rfl)
theorem dX4_behind_10 : decode cX4_behind 10 = .ok (.istore 4, 2) := dk_54 4 (dk_at dksX4_behind_0 10 rfl rfl)
theorem dX4_behind_12 : decode cX4_behind 12 = .ok (.aload_n 0, 1) := dk_42 (dk_at dksX4_behind_0 12 rfl rfl)
theorem dX4_behind_13 : decode cX4_behind 13 = .ok (.getfield 13, 3) := dk_180 0 13 (dk_at dksX4_behind_0 13 rfl rfl)
theorem dX4_behind_16 : decode cX4_behind 16 = .ok (.sipush 665, 3) := dk_17 2 153 (dk_at dksX4_behind_0 16 rfl rfl)
theorem dX4_behind_19 : decode cX4_behind 19 = .ok (.iload_n 1, 1) := dk_27 (dk_at dksX4_behind_0 19 rfl rfl)
theorem dX4_behind_20 : decode cX4_behind 20 = .ok (.iadd, 1) := dk_96 (dk_at dksX4_behind_0 20 rfl rfl)
theorem dX4_behind_21 : decode cX4_behind 21 = .ok (.iaload, 1) := dk_46 (dk_at dksX4_behind_0 21 rfl rfl)
theorem dX4_behind_22 : decode cX4_behind 22 = .ok (.istore 5, 2) := dk_54 5 (dk_at dksX4_behind_0 22 rfl rfl)
theorem dX4_behind_24 : decode cX4_behind 24 = .ok (.iload_n 2, 1) := dk_28 (dk_at dksX4_behind_1 0 rfl rfl)
theorem dX4_behind_25 : decode cX4_behind 25 = .ok (.iload_n 3, 1) := dk_29 (dk_at dksX4_behind_1 1 rfl rfl)
theorem dX4_behind_26 : decode cX4_behind 26 = .ok (.ior, 1) := dk_128 (dk_at dksX4_behind_1 2 rfl rfl)
theorem dX4_behind_27 : decode cX4_behind 27 = .ok (.iconst (-1), 1) := dk_2 (dk_at dksX4_behind_1 3 rfl rfl)
theorem dX4_behind_28 : decode cX4_behind 28 = .ok (.ixor, 1) := dk_130 (dk_at dksX4_behind_1 4 rfl rfl)
theorem dX4_behind_29 : decode cX4_behind 29 = .ok (.istore 6, 2) := dk_54 6 (dk_at dksX4_behind_1 5 rfl rfl)
theorem dX4_behind_31 : decode cX4_behind 31 = .ok (.aload_n 0, 1) := dk_42 (dk_at dksX4_behind_1 7 rfl rfl)
theorem dX4_behind_32 : decode cX4_behind 32 = .ok (.iload_n 1, 1) := dk_27 (dk_at dksX4_behind_1 8 rfl rfl)
theorem dX4_behind_33 : decode cX4_behind 33 = .ok (.invokevirtual 328, 3) := dk_182 1 72 (dk_at dksX4_behind_1 9 rfl rfl)
theorem dX4_behind_36 : decode cX4_behind 36 = .ok (.istore 7, 2) := dk_54 7 (dk_at dksX4_behind_1 12 rfl rfl)
theorem dX4_behind_38 : decode cX4_behind 38 = .ok (.iload 4, 2) := dk_21 4 (dk_at dksX4_behind_1 14 rfl rfl)
theorem dX4_behind_40 : decode cX4_behind 40 = .ok (.iload 6, 2) := dk_21 6 (dk_at dksX4_behind_1 16 rfl rfl)
theorem dX4_behind_42 : decode cX4_behind 42 = .ok (.iand, 1) := dk_126 (dk_at dksX4_behind_1 18 rfl rfl)
theorem dX4_behind_43 : decode cX4_behind 43 = .ok (.invokestatic 244, 3) := dk_184 0 244 (dk_at dksX4_behind_1 19 rfl rfl)
theorem dX4_behind_46 : decode cX4_behind 46 = .ok (.iload 5, 2) := dk_21 5 (dk_at dksX4_behind_1 22 rfl rfl)
theorem dX4_behind_48 : decode cX4_behind 48 = .ok (.iload 6, 2) := dk_21 6 (dk_at dksX4_behind_2 0 rfl rfl)
theorem dX4_behind_50 : decode cX4_behind 50 = .ok (.iand, 1) := dk_126 (dk_at dksX4_behind_2 2 rfl rfl)
theorem dX4_behind_51 : decode cX4_behind 51 = .ok (.invokestatic 244, 3) := dk_184 0 244 (dk_at dksX4_behind_2 3 rfl rfl)
theorem dX4_behind_54 : decode cX4_behind 54 = .ok (.iadd, 1) := dk_96 (dk_at dksX4_behind_2 6 rfl rfl)
theorem dX4_behind_55 : decode cX4_behind 55 = .ok (.aload_n 0, 1) := dk_42 (dk_at dksX4_behind_2 7 rfl rfl)
theorem dX4_behind_56 : decode cX4_behind 56 = .ok (.getfield 13, 3) := dk_180 0 13 (dk_at dksX4_behind_2 8 rfl rfl)
theorem dX4_behind_59 : decode cX4_behind 59 = .ok (.sipush 669, 3) := dk_17 2 157 (dk_at dksX4_behind_2 11 rfl rfl)
theorem dX4_behind_62 : decode cX4_behind 62 = .ok (.iload_n 1, 1) := dk_27 (dk_at dksX4_behind_2 14 rfl rfl)
theorem dX4_behind_63 : decode cX4_behind 63 = .ok (.iadd, 1) := dk_96 (dk_at dksX4_behind_2 15 rfl rfl)
theorem dX4_behind_64 : decode cX4_behind 64 = .ok (.iaload, 1) := dk_46 (dk_at dksX4_behind_2 16 rfl rfl)
theorem dX4_behind_65 : decode cX4_behind 65 = .ok (.iadd, 1) := dk_96 (dk_at dksX4_behind_2 17 rfl rfl)
theorem dX4_behind_66 : decode cX4_behind 66 = .ok (.istore 8, 2) := dk_54 8 (dk_at dksX4_behind_2 18 rfl rfl)
theorem dX4_behind_68 : decode cX4_behind 68 = .ok (.iload 8, 2) := dk_21 8 (dk_at dksX4_behind_2 20 rfl rfl)
theorem dX4_behind_70 : decode cX4_behind 70 = .ok (.iload 7, 2) := dk_21 7 (dk_at dksX4_behind_2 22 rfl rfl)
theorem dX4_behind_72 : decode cX4_behind 72 = .ok (.if_icmp .eq 43, 3) := dk_159 0 43 (dk_at dksX4_behind_3 0 rfl rfl)
theorem dX4_behind_75 : decode cX4_behind 75 = .ok (.iload 4, 2) := dk_21 4 (dk_at dksX4_behind_3 3 rfl rfl)
theorem dX4_behind_77 : decode cX4_behind 77 = .ok (.iload_n 2, 1) := dk_28 (dk_at dksX4_behind_3 5 rfl rfl)
theorem dX4_behind_78 : decode cX4_behind 78 = .ok (.iand, 1) := dk_126 (dk_at dksX4_behind_3 6 rfl rfl)
theorem dX4_behind_79 : decode cX4_behind 79 = .ok (.invokestatic 244, 3) := dk_184 0 244 (dk_at dksX4_behind_3 7 rfl rfl)
theorem dX4_behind_82 : decode cX4_behind 82 = .ok (.iload 5, 2) := dk_21 5 (dk_at dksX4_behind_3 10 rfl rfl)
theorem dX4_behind_84 : decode cX4_behind 84 = .ok (.iload_n 3, 1) := dk_29 (dk_at dksX4_behind_3 12 rfl rfl)
theorem dX4_behind_85 : decode cX4_behind 85 = .ok (.iand, 1) := dk_126 (dk_at dksX4_behind_3 13 rfl rfl)
theorem dX4_behind_86 : decode cX4_behind 86 = .ok (.invokestatic 244, 3) := dk_184 0 244 (dk_at dksX4_behind_3 14 rfl rfl)
theorem dX4_behind_89 : decode cX4_behind 89 = .ok (.iadd, 1) := dk_96 (dk_at dksX4_behind_3 17 rfl rfl)
theorem dX4_behind_90 : decode cX4_behind 90 = .ok (.iload 7, 2) := dk_21 7 (dk_at dksX4_behind_3 18 rfl rfl)
theorem dX4_behind_92 : decode cX4_behind 92 = .ok (.if_icmp .eq 23, 3) := dk_159 0 23 (dk_at dksX4_behind_3 20 rfl rfl)
theorem dX4_behind_95 : decode cX4_behind 95 = .ok (.iload 4, 2) := dk_21 4 (dk_at dksX4_behind_4 0 rfl rfl)
theorem dX4_behind_97 : decode cX4_behind 97 = .ok (.iload_n 3, 1) := dk_29 (dk_at dksX4_behind_4 2 rfl rfl)
theorem dX4_behind_98 : decode cX4_behind 98 = .ok (.iand, 1) := dk_126 (dk_at dksX4_behind_4 3 rfl rfl)
theorem dX4_behind_99 : decode cX4_behind 99 = .ok (.invokestatic 244, 3) := dk_184 0 244 (dk_at dksX4_behind_4 4 rfl rfl)
theorem dX4_behind_102 : decode cX4_behind 102 = .ok (.iload 5, 2) := dk_21 5 (dk_at dksX4_behind_4 7 rfl rfl)
theorem dX4_behind_104 : decode cX4_behind 104 = .ok (.iload_n 2, 1) := dk_28 (dk_at dksX4_behind_4 9 rfl rfl)
theorem dX4_behind_105 : decode cX4_behind 105 = .ok (.iand, 1) := dk_126 (dk_at dksX4_behind_4 10 rfl rfl)
theorem dX4_behind_106 : decode cX4_behind 106 = .ok (.invokestatic 244, 3) := dk_184 0 244 (dk_at dksX4_behind_4 11 rfl rfl)
theorem dX4_behind_109 : decode cX4_behind 109 = .ok (.iadd, 1) := dk_96 (dk_at dksX4_behind_4 14 rfl rfl)
theorem dX4_behind_110 : decode cX4_behind 110 = .ok (.iload 7, 2) := dk_21 7 (dk_at dksX4_behind_4 15 rfl rfl)
theorem dX4_behind_112 : decode cX4_behind 112 = .ok (.if_icmp .ne 6, 3) := dk_160 0 6 (dk_at dksX4_behind_4 17 rfl rfl)
theorem dX4_behind_115 : decode cX4_behind 115 = .ok (.bipush 99, 2) := dk_16 99 (dk_at dksX4_behind_4 20 rfl rfl)
theorem dX4_behind_117 : decode cX4_behind 117 = .ok (.ireturn, 1) := dk_172 (dk_at dksX4_behind_4 22 rfl rfl)
theorem dX4_behind_118 : decode cX4_behind 118 = .ok (.aload_n 0, 1) := dk_42 (dk_at dksX4_behind_4 23 rfl rfl)
theorem dX4_behind_119 : decode cX4_behind 119 = .ok (.iload 4, 2) := dk_21 4 (dk_at dksX4_behind_5 0 rfl rfl)
theorem dX4_behind_121 : decode cX4_behind 121 = .ok (.iload 6, 2) := dk_21 6 (dk_at dksX4_behind_5 2 rfl rfl)
theorem dX4_behind_123 : decode cX4_behind 123 = .ok (.iand, 1) := dk_126 (dk_at dksX4_behind_5 4 rfl rfl)
theorem dX4_behind_124 : decode cX4_behind 124 = .ok (.iload 5, 2) := dk_21 5 (dk_at dksX4_behind_5 5 rfl rfl)
theorem dX4_behind_126 : decode cX4_behind 126 = .ok (.iload 6, 2) := dk_21 6 (dk_at dksX4_behind_5 7 rfl rfl)
theorem dX4_behind_128 : decode cX4_behind 128 = .ok (.iand, 1) := dk_126 (dk_at dksX4_behind_5 9 rfl rfl)
theorem dX4_behind_129 : decode cX4_behind 129 = .ok (.aload_n 0, 1) := dk_42 (dk_at dksX4_behind_5 10 rfl rfl)
theorem dX4_behind_130 : decode cX4_behind 130 = .ok (.getfield 13, 3) := dk_180 0 13 (dk_at dksX4_behind_5 11 rfl rfl)
theorem dX4_behind_133 : decode cX4_behind 133 = .ok (.sipush 669, 3) := dk_17 2 157 (dk_at dksX4_behind_5 14 rfl rfl)
theorem dX4_behind_136 : decode cX4_behind 136 = .ok (.iload_n 1, 1) := dk_27 (dk_at dksX4_behind_5 17 rfl rfl)
theorem dX4_behind_137 : decode cX4_behind 137 = .ok (.iadd, 1) := dk_96 (dk_at dksX4_behind_5 18 rfl rfl)
theorem dX4_behind_138 : decode cX4_behind 138 = .ok (.iaload, 1) := dk_46 (dk_at dksX4_behind_5 19 rfl rfl)
theorem dX4_behind_139 : decode cX4_behind 139 = .ok (.invokevirtual 334, 3) := dk_182 1 78 (dk_at dksX4_behind_5 20 rfl rfl)
theorem dX4_behind_142 : decode cX4_behind 142 = .ok (.aload_n 0, 1) := dk_42 (dk_at dksX4_behind_5 23 rfl rfl)
theorem dX4_behind_143 : decode cX4_behind 143 = .ok (.iload 4, 2) := dk_21 4 (dk_at dksX4_behind_6 0 rfl rfl)
theorem dX4_behind_145 : decode cX4_behind 145 = .ok (.iload_n 2, 1) := dk_28 (dk_at dksX4_behind_6 2 rfl rfl)
theorem dX4_behind_146 : decode cX4_behind 146 = .ok (.iand, 1) := dk_126 (dk_at dksX4_behind_6 3 rfl rfl)
theorem dX4_behind_147 : decode cX4_behind 147 = .ok (.iload 5, 2) := dk_21 5 (dk_at dksX4_behind_6 4 rfl rfl)
theorem dX4_behind_149 : decode cX4_behind 149 = .ok (.iload_n 3, 1) := dk_29 (dk_at dksX4_behind_6 6 rfl rfl)
theorem dX4_behind_150 : decode cX4_behind 150 = .ok (.iand, 1) := dk_126 (dk_at dksX4_behind_6 7 rfl rfl)
theorem dX4_behind_151 : decode cX4_behind 151 = .ok (.iconst 0, 1) := dk_3 (dk_at dksX4_behind_6 8 rfl rfl)
theorem dX4_behind_152 : decode cX4_behind 152 = .ok (.invokevirtual 334, 3) := dk_182 1 78 (dk_at dksX4_behind_6 9 rfl rfl)
theorem dX4_behind_155 : decode cX4_behind 155 = .ok (.aload_n 0, 1) := dk_42 (dk_at dksX4_behind_6 12 rfl rfl)
theorem dX4_behind_156 : decode cX4_behind 156 = .ok (.iload 4, 2) := dk_21 4 (dk_at dksX4_behind_6 13 rfl rfl)
theorem dX4_behind_158 : decode cX4_behind 158 = .ok (.iload_n 3, 1) := dk_29 (dk_at dksX4_behind_6 15 rfl rfl)
theorem dX4_behind_159 : decode cX4_behind 159 = .ok (.iand, 1) := dk_126 (dk_at dksX4_behind_6 16 rfl rfl)
theorem dX4_behind_160 : decode cX4_behind 160 = .ok (.iload 5, 2) := dk_21 5 (dk_at dksX4_behind_6 17 rfl rfl)
theorem dX4_behind_162 : decode cX4_behind 162 = .ok (.iload_n 2, 1) := dk_28 (dk_at dksX4_behind_6 19 rfl rfl)
theorem dX4_behind_163 : decode cX4_behind 163 = .ok (.iand, 1) := dk_126 (dk_at dksX4_behind_6 20 rfl rfl)
theorem dX4_behind_164 : decode cX4_behind 164 = .ok (.iconst 0, 1) := dk_3 (dk_at dksX4_behind_6 21 rfl rfl)
theorem dX4_behind_165 : decode cX4_behind 165 = .ok (.invokevirtual 334, 3) := dk_182 1 78 (dk_at dksX4_behind_7 0 rfl rfl)
theorem dX4_behind_168 : decode cX4_behind 168 = .ok (.invokestatic 317, 3) := dk_184 1 61 (dk_at dksX4_behind_7 3 rfl rfl)
theorem dX4_behind_171 : decode cX4_behind 171 = .ok (.invokestatic 317, 3) := dk_184 1 61 (dk_at dksX4_behind_7 6 rfl rfl)
theorem dX4_behind_174 : decode cX4_behind 174 = .ok (.ireturn, 1) := dk_172 (dk_at dksX4_behind_7 9 rfl rfl)
abbrev cX4_bestRight : ByteArray := prog_21_method_92_code
def yX4_bestRight : MethodName := ⟨RX4, "bestRight", "(I)I"⟩
def dkwX4_bestRight_1 : List UInt8 := [180, 1, 84, 172]
abbrev dktX4_bestRight_1 : List UInt8 := dkwX4_bestRight_1 ++ []
def dkwX4_bestRight_0 : List UInt8 := [42, 3, 181, 0, 1, 42, 27, 182, 1, 67, 154, 0, 5, 2, 172, 42, 27, 182, 1, 90, 61, 42]
abbrev dktX4_bestRight_0 : List UInt8 := dkwX4_bestRight_0 ++ dktX4_bestRight_1
theorem dksX4_bestRight_0 : cX4_bestRight.data.toList.drop 0 = dktX4_bestRight_0 := by decide +kernel
theorem dksX4_bestRight_1 : cX4_bestRight.data.toList.drop 22 = dktX4_bestRight_1 := dk_seg dksX4_bestRight_0 22 rfl rfl
theorem dX4_bestRight_0 : decode cX4_bestRight 0 = .ok (.aload_n 0, 1) := dk_42 (dk_at dksX4_bestRight_0 0 rfl rfl)
theorem dX4_bestRight_1 : decode cX4_bestRight 1 = .ok (.iconst 0, 1) := dk_3 (dk_at dksX4_bestRight_0 1 rfl rfl)
theorem dX4_bestRight_2 : decode cX4_bestRight 2 = .ok (.putfield 1, 3) := dk_181 0 1 (dk_at dksX4_bestRight_0 2 rfl rfl)
theorem dX4_bestRight_5 : decode cX4_bestRight 5 = .ok (.aload_n 0, 1) := dk_42 (dk_at dksX4_bestRight_0 5 rfl rfl)
theorem dX4_bestRight_6 : decode cX4_bestRight 6 = .ok (.iload_n 1, 1) := dk_27 (dk_at dksX4_bestRight_0 6 rfl rfl)
theorem dX4_bestRight_7 : decode cX4_bestRight 7 = .ok (.invokevirtual 323, 3) := dk_182 1 67 (dk_at dksX4_bestRight_0 7 rfl rfl)
theorem dX4_bestRight_10 : decode cX4_bestRight 10 = .ok (.ifCond .ne 5, 3) := dk_154 0 5 (dk_at dksX4_bestRight_0 10 rfl rfl)
theorem dX4_bestRight_13 : decode cX4_bestRight 13 = .ok (.iconst (-1), 1) := dk_2 (dk_at dksX4_bestRight_0 13 rfl rfl)
theorem dX4_bestRight_14 : decode cX4_bestRight 14 = .ok (.ireturn, 1) := dk_172 (dk_at dksX4_bestRight_0 14 rfl rfl)
theorem dX4_bestRight_15 : decode cX4_bestRight 15 = .ok (.aload_n 0, 1) := dk_42 (dk_at dksX4_bestRight_0 15 rfl rfl)
theorem dX4_bestRight_16 : decode cX4_bestRight 16 = .ok (.iload_n 1, 1) := dk_27 (dk_at dksX4_bestRight_0 16 rfl rfl)
theorem dX4_bestRight_17 : decode cX4_bestRight 17 = .ok (.invokevirtual 346, 3) := dk_182 1 90 (dk_at dksX4_bestRight_0 17 rfl rfl)
theorem dX4_bestRight_20 : decode cX4_bestRight 20 = .ok (.istore_n 2, 1) := dk_61 (dk_at dksX4_bestRight_0 20 rfl rfl)
theorem dX4_bestRight_21 : decode cX4_bestRight 21 = .ok (.aload_n 0, 1) := dk_42 (dk_at dksX4_bestRight_0 21 rfl rfl)
theorem dX4_bestRight_22 : decode cX4_bestRight 22 = .ok (.getfield 340, 3) := dk_180 1 84 (dk_at dksX4_bestRight_1 0 rfl rfl)
theorem dX4_bestRight_25 : decode cX4_bestRight 25 = .ok (.ireturn, 1) := dk_172 (dk_at dksX4_bestRight_1 3 rfl rfl)
abbrev cX4_fewestWeighings : ByteArray := prog_21_method_93_code
def yX4_fewestWeighings : MethodName := ⟨RX4, "fewestWeighings", "(IZ)I"⟩
def dkwX4_fewestWeighings_2 : List UInt8 := [16, 254, 167, 0, 4, 29, 172]
abbrev dktX4_fewestWeighings_2 : List UInt8 := dkwX4_fewestWeighings_2 ++ []
def dkwX4_fewestWeighings_1 : List UInt8 := [182, 1, 75, 42, 27, 28, 153, 0, 7, 4, 167, 0, 4, 3, 182, 1, 64, 62, 29, 16, 99, 161, 0, 8]
abbrev dktX4_fewestWeighings_1 : List UInt8 := dkwX4_fewestWeighings_1 ++ dktX4_fewestWeighings_2
def dkwX4_fewestWeighings_0 : List UInt8 := [42, 3, 181, 0, 1, 27, 133, 20, 1, 70, 20, 1, 93, 184, 0, 124, 154, 0, 5, 2, 172, 42, 27]
abbrev dktX4_fewestWeighings_0 : List UInt8 := dkwX4_fewestWeighings_0 ++ dktX4_fewestWeighings_1
theorem dksX4_fewestWeighings_0 : cX4_fewestWeighings.data.toList.drop 0 = dktX4_fewestWeighings_0 := by decide +kernel
theorem dksX4_fewestWeighings_1 : cX4_fewestWeighings.data.toList.drop 23 = dktX4_fewestWeighings_1 := dk_seg dksX4_fewestWeighings_0 23 rfl rfl
theorem dksX4_fewestWeighings_2 : cX4_fewestWeighings.data.toList.drop 47 = dktX4_fewestWeighings_2 := dk_seg dksX4_fewestWeighings_1 24 rfl rfl
theorem dX4_fewestWeighings_0 : decode cX4_fewestWeighings 0 = .ok (.aload_n 0, 1) := dk_42 (dk_at dksX4_fewestWeighings_0 0 rfl rfl)
theorem dX4_fewestWeighings_1 : decode cX4_fewestWeighings 1 = .ok (.iconst 0, 1) := dk_3 (dk_at dksX4_fewestWeighings_0 1 rfl rfl)
theorem dX4_fewestWeighings_2 : decode cX4_fewestWeighings 2 = .ok (.putfield 1, 3) := dk_181 0 1 (dk_at dksX4_fewestWeighings_0 2 rfl rfl)
theorem dX4_fewestWeighings_5 : decode cX4_fewestWeighings 5 = .ok (.iload_n 1, 1) := dk_27 (dk_at dksX4_fewestWeighings_0 5 rfl rfl)
theorem dX4_fewestWeighings_6 : decode cX4_fewestWeighings 6 = .ok (.i2l, 1) := dk_133 (dk_at dksX4_fewestWeighings_0 6 rfl rfl)
theorem dX4_fewestWeighings_7 : decode cX4_fewestWeighings 7 = .ok (.ldc2_w 326, 3) := dk_20 1 70 (dk_at dksX4_fewestWeighings_0 7 rfl rfl)
theorem dX4_fewestWeighings_10 : decode cX4_fewestWeighings 10 = .ok (.ldc2_w 349, 3) := dk_20 1 93 (dk_at dksX4_fewestWeighings_0 10 rfl rfl)
theorem dX4_fewestWeighings_13 : decode cX4_fewestWeighings 13 = .ok (.invokestatic 124, 3) := dk_184 0 124 (dk_at dksX4_fewestWeighings_0 13 rfl rfl)
theorem dX4_fewestWeighings_16 : decode cX4_fewestWeighings 16 = .ok (.ifCond .ne 5, 3) := dk_154 0 5 (dk_at dksX4_fewestWeighings_0 16 rfl rfl)
theorem dX4_fewestWeighings_19 : decode cX4_fewestWeighings 19 = .ok (.iconst (-1), 1) := dk_2 (dk_at dksX4_fewestWeighings_0 19 rfl rfl)
theorem dX4_fewestWeighings_20 : decode cX4_fewestWeighings 20 = .ok (.ireturn, 1) := dk_172 (dk_at dksX4_fewestWeighings_0 20 rfl rfl)
theorem dX4_fewestWeighings_21 : decode cX4_fewestWeighings 21 = .ok (.aload_n 0, 1) := dk_42 (dk_at dksX4_fewestWeighings_0 21 rfl rfl)
theorem dX4_fewestWeighings_22 : decode cX4_fewestWeighings 22 = .ok (.iload_n 1, 1) := dk_27 (dk_at dksX4_fewestWeighings_0 22 rfl rfl)
theorem dX4_fewestWeighings_23 : decode cX4_fewestWeighings 23 = .ok (.invokevirtual 331, 3) := dk_182 1 75 (dk_at dksX4_fewestWeighings_1 0 rfl rfl)
theorem dX4_fewestWeighings_26 : decode cX4_fewestWeighings 26 = .ok (.aload_n 0, 1) := dk_42 (dk_at dksX4_fewestWeighings_1 3 rfl rfl)
theorem dX4_fewestWeighings_27 : decode cX4_fewestWeighings 27 = .ok (.iload_n 1, 1) := dk_27 (dk_at dksX4_fewestWeighings_1 4 rfl rfl)
theorem dX4_fewestWeighings_28 : decode cX4_fewestWeighings 28 = .ok (.iload_n 2, 1) := dk_28 (dk_at dksX4_fewestWeighings_1 5 rfl rfl)
theorem dX4_fewestWeighings_29 : decode cX4_fewestWeighings 29 = .ok (.ifCond .eq 7, 3) := dk_153 0 7 (dk_at dksX4_fewestWeighings_1 6 rfl rfl)
theorem dX4_fewestWeighings_32 : decode cX4_fewestWeighings 32 = .ok (.iconst 1, 1) := dk_4 (dk_at dksX4_fewestWeighings_1 9 rfl rfl)
theorem dX4_fewestWeighings_33 : decode cX4_fewestWeighings 33 = .ok (.goto 4, 3) := dk_167 0 4 (dk_at dksX4_fewestWeighings_1 10 rfl rfl)
theorem dX4_fewestWeighings_36 : decode cX4_fewestWeighings 36 = .ok (.iconst 0, 1) := dk_3 (dk_at dksX4_fewestWeighings_1 13 rfl rfl)
theorem dX4_fewestWeighings_37 : decode cX4_fewestWeighings 37 = .ok (.invokevirtual 320, 3) := dk_182 1 64 (dk_at dksX4_fewestWeighings_1 14 rfl rfl)
theorem dX4_fewestWeighings_40 : decode cX4_fewestWeighings 40 = .ok (.istore_n 3, 1) := dk_62 (dk_at dksX4_fewestWeighings_1 17 rfl rfl)
theorem dX4_fewestWeighings_41 : decode cX4_fewestWeighings 41 = .ok (.iload_n 3, 1) := dk_29 (dk_at dksX4_fewestWeighings_1 18 rfl rfl)
theorem dX4_fewestWeighings_42 : decode cX4_fewestWeighings 42 = .ok (.bipush 99, 2) := dk_16 99 (dk_at dksX4_fewestWeighings_1 19 rfl rfl)
theorem dX4_fewestWeighings_44 : decode cX4_fewestWeighings 44 = .ok (.if_icmp .lt 8, 3) := dk_161 0 8 (dk_at dksX4_fewestWeighings_1 21 rfl rfl)
theorem dX4_fewestWeighings_47 : decode cX4_fewestWeighings 47 = .ok (.bipush (-2), 2) := dk_16 254 (dk_at dksX4_fewestWeighings_2 0 rfl rfl)
theorem dX4_fewestWeighings_49 : decode cX4_fewestWeighings 49 = .ok (.goto 4, 3) := dk_167 0 4 (dk_at dksX4_fewestWeighings_2 2 rfl rfl)
theorem dX4_fewestWeighings_52 : decode cX4_fewestWeighings 52 = .ok (.iload_n 3, 1) := dk_29 (dk_at dksX4_fewestWeighings_2 5 rfl rfl)
theorem dX4_fewestWeighings_53 : decode cX4_fewestWeighings 53 = .ok (.ireturn, 1) := dk_172 (dk_at dksX4_fewestWeighings_2 6 rfl rfl)
abbrev cX4_undo : ByteArray := prog_21_method_95_code
def yX4_undo : MethodName := ⟨RX4, "undo", "()Z"⟩
def dkwX4_undo_2 : List UInt8 := [172]
abbrev dktX4_undo_2 : List UInt8 := dkwX4_undo_2 ++ []
def dkwX4_undo_1 : List UInt8 := [42, 180, 0, 85, 17, 2, 165, 42, 180, 0, 231, 104, 42, 180, 0, 13, 3, 17, 2, 165, 184, 0, 221, 4]
abbrev dktX4_undo_1 : List UInt8 := dkwX4_undo_1 ++ dktX4_undo_2
def dkwX4_undo_0 : List UInt8 := [42, 3, 181, 0, 1, 42, 180, 0, 231, 154, 0, 5, 3, 172, 42, 89, 180, 0, 231, 4, 100, 181, 0, 231]
abbrev dktX4_undo_0 : List UInt8 := dkwX4_undo_0 ++ dktX4_undo_1
theorem dksX4_undo_0 : cX4_undo.data.toList.drop 0 = dktX4_undo_0 := by decide +kernel
theorem dksX4_undo_1 : cX4_undo.data.toList.drop 24 = dktX4_undo_1 := dk_seg dksX4_undo_0 24 rfl rfl
theorem dksX4_undo_2 : cX4_undo.data.toList.drop 48 = dktX4_undo_2 := dk_seg dksX4_undo_1 24 rfl rfl
theorem dX4_undo_0 : decode cX4_undo 0 = .ok (.aload_n 0, 1) := dk_42 (dk_at dksX4_undo_0 0 rfl rfl)
theorem dX4_undo_1 : decode cX4_undo 1 = .ok (.iconst 0, 1) := dk_3 (dk_at dksX4_undo_0 1 rfl rfl)
theorem dX4_undo_2 : decode cX4_undo 2 = .ok (.putfield 1, 3) := dk_181 0 1 (dk_at dksX4_undo_0 2 rfl rfl)
theorem dX4_undo_5 : decode cX4_undo 5 = .ok (.aload_n 0, 1) := dk_42 (dk_at dksX4_undo_0 5 rfl rfl)
theorem dX4_undo_6 : decode cX4_undo 6 = .ok (.getfield 231, 3) := dk_180 0 231 (dk_at dksX4_undo_0 6 rfl rfl)
theorem dX4_undo_9 : decode cX4_undo 9 = .ok (.ifCond .ne 5, 3) := dk_154 0 5 (dk_at dksX4_undo_0 9 rfl rfl)
theorem dX4_undo_12 : decode cX4_undo 12 = .ok (.iconst 0, 1) := dk_3 (dk_at dksX4_undo_0 12 rfl rfl)
theorem dX4_undo_13 : decode cX4_undo 13 = .ok (.ireturn, 1) := dk_172 (dk_at dksX4_undo_0 13 rfl rfl)
theorem dX4_undo_14 : decode cX4_undo 14 = .ok (.aload_n 0, 1) := dk_42 (dk_at dksX4_undo_0 14 rfl rfl)
theorem dX4_undo_15 : decode cX4_undo 15 = .ok (.dup, 1) := dk_89 (dk_at dksX4_undo_0 15 rfl rfl)
theorem dX4_undo_16 : decode cX4_undo 16 = .ok (.getfield 231, 3) := dk_180 0 231 (dk_at dksX4_undo_0 16 rfl rfl)
theorem dX4_undo_19 : decode cX4_undo 19 = .ok (.iconst 1, 1) := dk_4 (dk_at dksX4_undo_0 19 rfl rfl)
theorem dX4_undo_20 : decode cX4_undo 20 = .ok (.isub, 1) := dk_100 (dk_at dksX4_undo_0 20 rfl rfl)
theorem dX4_undo_21 : decode cX4_undo 21 = .ok (.putfield 231, 3) := dk_181 0 231 (dk_at dksX4_undo_0 21 rfl rfl)
theorem dX4_undo_24 : decode cX4_undo 24 = .ok (.aload_n 0, 1) := dk_42 (dk_at dksX4_undo_1 0 rfl rfl)
theorem dX4_undo_25 : decode cX4_undo 25 = .ok (.getfield 85, 3) := dk_180 0 85 (dk_at dksX4_undo_1 1 rfl rfl)
theorem dX4_undo_28 : decode cX4_undo 28 = .ok (.sipush 677, 3) := dk_17 2 165 (dk_at dksX4_undo_1 4 rfl rfl)
theorem dX4_undo_31 : decode cX4_undo 31 = .ok (.aload_n 0, 1) := dk_42 (dk_at dksX4_undo_1 7 rfl rfl)
theorem dX4_undo_32 : decode cX4_undo 32 = .ok (.getfield 231, 3) := dk_180 0 231 (dk_at dksX4_undo_1 8 rfl rfl)
theorem dX4_undo_35 : decode cX4_undo 35 = .ok (.imul, 1) := dk_104 (dk_at dksX4_undo_1 11 rfl rfl)
theorem dX4_undo_36 : decode cX4_undo 36 = .ok (.aload_n 0, 1) := dk_42 (dk_at dksX4_undo_1 12 rfl rfl)
theorem dX4_undo_37 : decode cX4_undo 37 = .ok (.getfield 13, 3) := dk_180 0 13 (dk_at dksX4_undo_1 13 rfl rfl)
theorem dX4_undo_40 : decode cX4_undo 40 = .ok (.iconst 0, 1) := dk_3 (dk_at dksX4_undo_1 16 rfl rfl)
theorem dX4_undo_41 : decode cX4_undo 41 = .ok (.sipush 677, 3) := dk_17 2 165 (dk_at dksX4_undo_1 17 rfl rfl)
theorem dX4_undo_44 : decode cX4_undo 44 = .ok (.invokestatic 221, 3) := dk_184 0 221 (dk_at dksX4_undo_1 20 rfl rfl)
theorem dX4_undo_47 : decode cX4_undo 47 = .ok (.iconst 1, 1) := dk_4 (dk_at dksX4_undo_1 23 rfl rfl)
theorem dX4_undo_48 : decode cX4_undo 48 = .ok (.ireturn, 1) := dk_172 (dk_at dksX4_undo_2 0 rfl rfl)
abbrev cX4_undoDepth : ByteArray := prog_21_method_96_code
def yX4_undoDepth : MethodName := ⟨RX4, "undoDepth", "()I"⟩
def dkwX4_undoDepth_0 : List UInt8 := [42, 3, 181, 0, 1, 42, 180, 0, 231, 172]
abbrev dktX4_undoDepth_0 : List UInt8 := dkwX4_undoDepth_0 ++ []
theorem dksX4_undoDepth_0 : cX4_undoDepth.data.toList.drop 0 = dktX4_undoDepth_0 := by decide +kernel
theorem dX4_undoDepth_0 : decode cX4_undoDepth 0 = .ok (.aload_n 0, 1) := dk_42 (dk_at dksX4_undoDepth_0 0 rfl rfl)
theorem dX4_undoDepth_1 : decode cX4_undoDepth 1 = .ok (.iconst 0, 1) := dk_3 (dk_at dksX4_undoDepth_0 1 rfl rfl)
theorem dX4_undoDepth_2 : decode cX4_undoDepth 2 = .ok (.putfield 1, 3) := dk_181 0 1 (dk_at dksX4_undoDepth_0 2 rfl rfl)
theorem dX4_undoDepth_5 : decode cX4_undoDepth 5 = .ok (.aload_n 0, 1) := dk_42 (dk_at dksX4_undoDepth_0 5 rfl rfl)
theorem dX4_undoDepth_6 : decode cX4_undoDepth 6 = .ok (.getfield 231, 3) := dk_180 0 231 (dk_at dksX4_undoDepth_0 6 rfl rfl)
theorem dX4_undoDepth_9 : decode cX4_undoDepth 9 = .ok (.ireturn, 1) := dk_172 (dk_at dksX4_undoDepth_0 9 rfl rfl)
abbrev cX4_saveSnapshot : ByteArray := prog_21_method_97_code
def yX4_saveSnapshot : MethodName := ⟨RX4, "saveSnapshot", "(I)Z"⟩
def dkwX4_saveSnapshot_1 : List UInt8 := [180, 0, 88, 17, 2, 165, 27, 104, 17, 2, 165, 184, 0, 221, 42, 180, 0, 91, 27, 4, 84, 4, 172]
abbrev dktX4_saveSnapshot_1 : List UInt8 := dkwX4_saveSnapshot_1 ++ []
def dkwX4_saveSnapshot_0 : List UInt8 := [42, 3, 181, 0, 1, 27, 133, 9, 10, 184, 0, 124, 154, 0, 5, 3, 172, 42, 180, 0, 13, 3, 42]
abbrev dktX4_saveSnapshot_0 : List UInt8 := dkwX4_saveSnapshot_0 ++ dktX4_saveSnapshot_1
theorem dksX4_saveSnapshot_0 : cX4_saveSnapshot.data.toList.drop 0 = dktX4_saveSnapshot_0 := by decide +kernel
theorem dksX4_saveSnapshot_1 : cX4_saveSnapshot.data.toList.drop 23 = dktX4_saveSnapshot_1 := dk_seg dksX4_saveSnapshot_0 23 rfl rfl
theorem dX4_saveSnapshot_0 : decode cX4_saveSnapshot 0 = .ok (.aload_n 0, 1) := dk_42 (dk_at dksX4_saveSnapshot_0 0 rfl rfl)
theorem dX4_saveSnapshot_1 : decode cX4_saveSnapshot 1 = .ok (.iconst 0, 1) := dk_3 (dk_at dksX4_saveSnapshot_0 1 rfl rfl)
theorem dX4_saveSnapshot_2 : decode cX4_saveSnapshot 2 = .ok (.putfield 1, 3) := dk_181 0 1 (dk_at dksX4_saveSnapshot_0 2 rfl rfl)
theorem dX4_saveSnapshot_5 : decode cX4_saveSnapshot 5 = .ok (.iload_n 1, 1) := dk_27 (dk_at dksX4_saveSnapshot_0 5 rfl rfl)
theorem dX4_saveSnapshot_6 : decode cX4_saveSnapshot 6 = .ok (.i2l, 1) := dk_133 (dk_at dksX4_saveSnapshot_0 6 rfl rfl)
theorem dX4_saveSnapshot_7 : decode cX4_saveSnapshot 7 = .ok (.lconst 0, 1) := dk_9 (dk_at dksX4_saveSnapshot_0 7 rfl rfl)
theorem dX4_saveSnapshot_8 : decode cX4_saveSnapshot 8 = .ok (.lconst 1, 1) := dk_10 (dk_at dksX4_saveSnapshot_0 8 rfl rfl)
theorem dX4_saveSnapshot_9 : decode cX4_saveSnapshot 9 = .ok (.invokestatic 124, 3) := dk_184 0 124 (dk_at dksX4_saveSnapshot_0 9 rfl rfl)
theorem dX4_saveSnapshot_12 : decode cX4_saveSnapshot 12 = .ok (.ifCond .ne 5, 3) := dk_154 0 5 (dk_at dksX4_saveSnapshot_0 12 rfl rfl)
theorem dX4_saveSnapshot_15 : decode cX4_saveSnapshot 15 = .ok (.iconst 0, 1) := dk_3 (dk_at dksX4_saveSnapshot_0 15 rfl rfl)
theorem dX4_saveSnapshot_16 : decode cX4_saveSnapshot 16 = .ok (.ireturn, 1) := dk_172 (dk_at dksX4_saveSnapshot_0 16 rfl rfl)
theorem dX4_saveSnapshot_17 : decode cX4_saveSnapshot 17 = .ok (.aload_n 0, 1) := dk_42 (dk_at dksX4_saveSnapshot_0 17 rfl rfl)
theorem dX4_saveSnapshot_18 : decode cX4_saveSnapshot 18 = .ok (.getfield 13, 3) := dk_180 0 13 (dk_at dksX4_saveSnapshot_0 18 rfl rfl)
theorem dX4_saveSnapshot_21 : decode cX4_saveSnapshot 21 = .ok (.iconst 0, 1) := dk_3 (dk_at dksX4_saveSnapshot_0 21 rfl rfl)
theorem dX4_saveSnapshot_22 : decode cX4_saveSnapshot 22 = .ok (.aload_n 0, 1) := dk_42 (dk_at dksX4_saveSnapshot_0 22 rfl rfl)
theorem dX4_saveSnapshot_23 : decode cX4_saveSnapshot 23 = .ok (.getfield 88, 3) := dk_180 0 88 (dk_at dksX4_saveSnapshot_1 0 rfl rfl)
theorem dX4_saveSnapshot_26 : decode cX4_saveSnapshot 26 = .ok (.sipush 677, 3) := dk_17 2 165 (dk_at dksX4_saveSnapshot_1 3 rfl rfl)
theorem dX4_saveSnapshot_29 : decode cX4_saveSnapshot 29 = .ok (.iload_n 1, 1) := dk_27 (dk_at dksX4_saveSnapshot_1 6 rfl rfl)
theorem dX4_saveSnapshot_30 : decode cX4_saveSnapshot 30 = .ok (.imul, 1) := dk_104 (dk_at dksX4_saveSnapshot_1 7 rfl rfl)
theorem dX4_saveSnapshot_31 : decode cX4_saveSnapshot 31 = .ok (.sipush 677, 3) := dk_17 2 165 (dk_at dksX4_saveSnapshot_1 8 rfl rfl)
theorem dX4_saveSnapshot_34 : decode cX4_saveSnapshot 34 = .ok (.invokestatic 221, 3) := dk_184 0 221 (dk_at dksX4_saveSnapshot_1 11 rfl rfl)
theorem dX4_saveSnapshot_37 : decode cX4_saveSnapshot 37 = .ok (.aload_n 0, 1) := dk_42 (dk_at dksX4_saveSnapshot_1 14 rfl rfl)
theorem dX4_saveSnapshot_38 : decode cX4_saveSnapshot 38 = .ok (.getfield 91, 3) := dk_180 0 91 (dk_at dksX4_saveSnapshot_1 15 rfl rfl)
theorem dX4_saveSnapshot_41 : decode cX4_saveSnapshot 41 = .ok (.iload_n 1, 1) := dk_27 (dk_at dksX4_saveSnapshot_1 18 rfl rfl)
theorem dX4_saveSnapshot_42 : decode cX4_saveSnapshot 42 = .ok (.iconst 1, 1) := dk_4 (dk_at dksX4_saveSnapshot_1 19 rfl rfl)
theorem dX4_saveSnapshot_43 : decode cX4_saveSnapshot 43 = .ok (.bastore, 1) := dk_84 (dk_at dksX4_saveSnapshot_1 20 rfl rfl)
theorem dX4_saveSnapshot_44 : decode cX4_saveSnapshot 44 = .ok (.iconst 1, 1) := dk_4 (dk_at dksX4_saveSnapshot_1 21 rfl rfl)
theorem dX4_saveSnapshot_45 : decode cX4_saveSnapshot 45 = .ok (.ireturn, 1) := dk_172 (dk_at dksX4_saveSnapshot_1 22 rfl rfl)
abbrev cX4_restoreSnapshot : ByteArray := prog_21_method_98_code
def yX4_restoreSnapshot : MethodName := ⟨RX4, "restoreSnapshot", "(I)Z"⟩
def dkwX4_restoreSnapshot_2 : List UInt8 := [181, 0, 231, 4, 172]
abbrev dktX4_restoreSnapshot_2 : List UInt8 := dkwX4_restoreSnapshot_2 ++ []
def dkwX4_restoreSnapshot_1 : List UInt8 := [3, 172, 42, 180, 0, 88, 17, 2, 165, 27, 104, 42, 180, 0, 13, 3, 17, 2, 165, 184, 0, 221, 42, 3]
abbrev dktX4_restoreSnapshot_1 : List UInt8 := dkwX4_restoreSnapshot_1 ++ dktX4_restoreSnapshot_2
def dkwX4_restoreSnapshot_0 : List UInt8 := [42, 3, 181, 0, 1, 27, 133, 9, 10, 184, 0, 124, 153, 0, 12, 42, 180, 0, 91, 27, 51, 154, 0, 5]
abbrev dktX4_restoreSnapshot_0 : List UInt8 := dkwX4_restoreSnapshot_0 ++ dktX4_restoreSnapshot_1
theorem dksX4_restoreSnapshot_0 : cX4_restoreSnapshot.data.toList.drop 0 = dktX4_restoreSnapshot_0 := by decide +kernel
theorem dksX4_restoreSnapshot_1 : cX4_restoreSnapshot.data.toList.drop 24 = dktX4_restoreSnapshot_1 := dk_seg dksX4_restoreSnapshot_0 24 rfl rfl
theorem dksX4_restoreSnapshot_2 : cX4_restoreSnapshot.data.toList.drop 48 = dktX4_restoreSnapshot_2 := dk_seg dksX4_restoreSnapshot_1 24 rfl rfl
theorem dX4_restoreSnapshot_0 : decode cX4_restoreSnapshot 0 = .ok (.aload_n 0, 1) := dk_42 (dk_at dksX4_restoreSnapshot_0 0 rfl rfl)
theorem dX4_restoreSnapshot_1 : decode cX4_restoreSnapshot 1 = .ok (.iconst 0, 1) := dk_3 (dk_at dksX4_restoreSnapshot_0 1 rfl rfl)
theorem dX4_restoreSnapshot_2 : decode cX4_restoreSnapshot 2 = .ok (.putfield 1, 3) := dk_181 0 1 (dk_at dksX4_restoreSnapshot_0 2 rfl rfl)
theorem dX4_restoreSnapshot_5 : decode cX4_restoreSnapshot 5 = .ok (.iload_n 1, 1) := dk_27 (dk_at dksX4_restoreSnapshot_0 5 rfl rfl)
theorem dX4_restoreSnapshot_6 : decode cX4_restoreSnapshot 6 = .ok (.i2l, 1) := dk_133 (dk_at dksX4_restoreSnapshot_0 6 rfl rfl)
theorem dX4_restoreSnapshot_7 : decode cX4_restoreSnapshot 7 = .ok (.lconst 0, 1) := dk_9 (dk_at dksX4_restoreSnapshot_0 7 rfl rfl)
theorem dX4_restoreSnapshot_8 : decode cX4_restoreSnapshot 8 = .ok (.lconst 1, 1) := dk_10 (dk_at dksX4_restoreSnapshot_0 8 rfl rfl)
theorem dX4_restoreSnapshot_9 : decode cX4_restoreSnapshot 9 = .ok (.invokestatic 124, 3) := dk_184 0 124 (dk_at dksX4_restoreSnapshot_0 9 rfl rfl)
theorem dX4_restoreSnapshot_12 : decode cX4_restoreSnapshot 12 = .ok (.ifCond .eq 12, 3) := dk_153 0 12 (dk_at dksX4_restoreSnapshot_0 12 rfl rfl)
theorem dX4_restoreSnapshot_15 : decode cX4_restoreSnapshot 15 = .ok (.aload_n 0, 1) := dk_42 (dk_at dksX4_restoreSnapshot_0 15 rfl rfl)
theorem dX4_restoreSnapshot_16 : decode cX4_restoreSnapshot 16 = .ok (.getfield 91, 3) := dk_180 0 91 (dk_at dksX4_restoreSnapshot_0 16 rfl rfl)
theorem dX4_restoreSnapshot_19 : decode cX4_restoreSnapshot 19 = .ok (.iload_n 1, 1) := dk_27 (dk_at dksX4_restoreSnapshot_0 19 rfl rfl)
theorem dX4_restoreSnapshot_20 : decode cX4_restoreSnapshot 20 = .ok (.baload, 1) := dk_51 (dk_at dksX4_restoreSnapshot_0 20 rfl rfl)
theorem dX4_restoreSnapshot_21 : decode cX4_restoreSnapshot 21 = .ok (.ifCond .ne 5, 3) := dk_154 0 5 (dk_at dksX4_restoreSnapshot_0 21 rfl rfl)
theorem dX4_restoreSnapshot_24 : decode cX4_restoreSnapshot 24 = .ok (.iconst 0, 1) := dk_3 (dk_at dksX4_restoreSnapshot_1 0 rfl rfl)
theorem dX4_restoreSnapshot_25 : decode cX4_restoreSnapshot 25 = .ok (.ireturn, 1) := dk_172 (dk_at dksX4_restoreSnapshot_1 1 rfl rfl)
theorem dX4_restoreSnapshot_26 : decode cX4_restoreSnapshot 26 = .ok (.aload_n 0, 1) := dk_42 (dk_at dksX4_restoreSnapshot_1 2 rfl rfl)
theorem dX4_restoreSnapshot_27 : decode cX4_restoreSnapshot 27 = .ok (.getfield 88, 3) := dk_180 0 88 (dk_at dksX4_restoreSnapshot_1 3 rfl rfl)
theorem dX4_restoreSnapshot_30 : decode cX4_restoreSnapshot 30 = .ok (.sipush 677, 3) := dk_17 2 165 (dk_at dksX4_restoreSnapshot_1 6 rfl rfl)
theorem dX4_restoreSnapshot_33 : decode cX4_restoreSnapshot 33 = .ok (.iload_n 1, 1) := dk_27 (dk_at dksX4_restoreSnapshot_1 9 rfl rfl)
theorem dX4_restoreSnapshot_34 : decode cX4_restoreSnapshot 34 = .ok (.imul, 1) := dk_104 (dk_at dksX4_restoreSnapshot_1 10 rfl rfl)
theorem dX4_restoreSnapshot_35 : decode cX4_restoreSnapshot 35 = .ok (.aload_n 0, 1) := dk_42 (dk_at dksX4_restoreSnapshot_1 11 rfl rfl)
theorem dX4_restoreSnapshot_36 : decode cX4_restoreSnapshot 36 = .ok (.getfield 13, 3) := dk_180 0 13 (dk_at dksX4_restoreSnapshot_1 12 rfl rfl)
theorem dX4_restoreSnapshot_39 : decode cX4_restoreSnapshot 39 = .ok (.iconst 0, 1) := dk_3 (dk_at dksX4_restoreSnapshot_1 15 rfl rfl)
theorem dX4_restoreSnapshot_40 : decode cX4_restoreSnapshot 40 = .ok (.sipush 677, 3) := dk_17 2 165 (dk_at dksX4_restoreSnapshot_1 16 rfl rfl)
theorem dX4_restoreSnapshot_43 : decode cX4_restoreSnapshot 43 = .ok (.invokestatic 221, 3) := dk_184 0 221 (dk_at dksX4_restoreSnapshot_1 19 rfl rfl)
theorem dX4_restoreSnapshot_46 : decode cX4_restoreSnapshot 46 = .ok (.aload_n 0, 1) := dk_42 (dk_at dksX4_restoreSnapshot_1 22 rfl rfl)
theorem dX4_restoreSnapshot_47 : decode cX4_restoreSnapshot 47 = .ok (.iconst 0, 1) := dk_3 (dk_at dksX4_restoreSnapshot_1 23 rfl rfl)
theorem dX4_restoreSnapshot_48 : decode cX4_restoreSnapshot 48 = .ok (.putfield 231, 3) := dk_181 0 231 (dk_at dksX4_restoreSnapshot_2 0 rfl rfl)
theorem dX4_restoreSnapshot_51 : decode cX4_restoreSnapshot 51 = .ok (.iconst 1, 1) := dk_4 (dk_at dksX4_restoreSnapshot_2 3 rfl rfl)
theorem dX4_restoreSnapshot_52 : decode cX4_restoreSnapshot 52 = .ok (.ireturn, 1) := dk_172 (dk_at dksX4_restoreSnapshot_2 4 rfl rfl)
theorem q107 : (Jvm.Cond.initialized "ScaleInspectionModel") ∈ lw_all := lw_g (lw_at lw_m1 22 rfl) rfl
theorem q878 : (Jvm.Cond.selects "ScaleInspectionModel" ({ cls := "java/lang/Object", name := "getClass", desc := "()Ljava/lang/Class;" } : Jvm.MethodName) ({ cls := "java/lang/Object", name := "getClass", desc := "()Ljava/lang/Class;" } : Jvm.MethodName)) ∈ lw_all := lw_g (lw_at lw_m4 73 rfl) rfl
theorem q1625 : (Jvm.Cond.instanceMethod ({ cls := "ScaleInspectionModel", name := "thrown", desc := "()I" } : Jvm.MethodName)) ∈ lw_all := lw_g (lw_at lw_m7 100 rfl) rfl
theorem q1626 : (Jvm.Cond.selects "ScaleInspectionModel" ({ cls := "ScaleInspectionModel", name := "thrown", desc := "()I" } : Jvm.MethodName) ({ cls := "ScaleInspectionModel", name := "thrown", desc := "()I" } : Jvm.MethodName)) ∈ lw_all := lw_g (lw_at lw_m7 101 rfl) rfl
theorem q1627 : (Jvm.Cond.code ({ cls := "ScaleInspectionModel", name := "thrown", desc := "()I" } : Jvm.MethodName) prog_21_method_1_code (1 : Nat) (Option.some Jvm.ClassFile.FieldType.int)) ∈ lw_all := lw_g (lw_at lw_m7 102 rfl) rfl
theorem q1629 : (Jvm.Cond.instantiable "ScaleInspectionModel" (45 : Nat)) ∈ lw_all := lw_g (lw_at lw_m7 104 rfl) rfl
theorem q1631 : (Jvm.Cond.instanceMethod ({ cls := "ScaleInspectionModel", name := "<init>", desc := "()V" } : Jvm.MethodName)) ∈ lw_all := lw_g (lw_at lw_m7 106 rfl) rfl
theorem q1632 : (Jvm.Cond.code ({ cls := "ScaleInspectionModel", name := "<init>", desc := "()V" } : Jvm.MethodName) prog_21_method_5_code (2 : Nat) (Option.none : Option Jvm.ClassFile.FieldType)) ∈ lw_all := lw_g (lw_at lw_m7 107 rfl) rfl
theorem q1633 : (Jvm.Cond.methodLink "ScaleInspectionModel" (7 : Nat) ({ cls := "java/lang/Object", name := "<init>", desc := "()V" } : Jvm.MethodName)) ∈ lw_all := lw_g (lw_at lw_m7 108 rfl) rfl
theorem q1634 : (Jvm.Cond.fieldLink "ScaleInspectionModel" (1 : Nat) "ScaleInspectionModel" "thrown" "I") ∈ lw_all := lw_g (lw_at lw_m7 109 rfl) rfl
theorem q1635 : (Jvm.Cond.fieldLink "ScaleInspectionModel" (13 : Nat) "ScaleInspectionModel" "now" "[I") ∈ lw_all := lw_g (lw_at lw_m7 110 rfl) rfl
theorem q1636 : (Jvm.Cond.fieldLink "ScaleInspectionModel" (215 : Nat) "ScaleInspectionModel" "traders" "I") ∈ lw_all := lw_g (lw_at lw_m7 111 rfl) rfl
theorem q1637 : (Jvm.Cond.fieldLink "ScaleInspectionModel" (218 : Nat) "ScaleInspectionModel" "scales" "I") ∈ lw_all := lw_g (lw_at lw_m7 112 rfl) rfl
theorem q1638 : (Jvm.Cond.fieldLink "ScaleInspectionModel" (17 : Nat) "ScaleInspectionModel" "scaleTrader" "[I") ∈ lw_all := lw_g (lw_at lw_m7 113 rfl) rfl
theorem q1639 : (Jvm.Cond.fieldLink "ScaleInspectionModel" (20 : Nat) "ScaleInspectionModel" "scaleClass" "[I") ∈ lw_all := lw_g (lw_at lw_m7 114 rfl) rfl
theorem q1640 : (Jvm.Cond.fieldLink "ScaleInspectionModel" (23 : Nat) "ScaleInspectionModel" "division" "[I") ∈ lw_all := lw_g (lw_at lw_m7 115 rfl) rfl
theorem q1641 : (Jvm.Cond.fieldLink "ScaleInspectionModel" (26 : Nat) "ScaleInspectionModel" "capacity" "[I") ∈ lw_all := lw_g (lw_at lw_m7 116 rfl) rfl
theorem q1642 : (Jvm.Cond.fieldLink "ScaleInspectionModel" (225 : Nat) "ScaleInspectionModel" "masses" "I") ∈ lw_all := lw_g (lw_at lw_m7 117 rfl) rfl
theorem q1643 : (Jvm.Cond.fieldLink "ScaleInspectionModel" (29 : Nat) "ScaleInspectionModel" "mass" "[I") ∈ lw_all := lw_g (lw_at lw_m7 118 rfl) rfl
theorem q1644 : (Jvm.Cond.fieldLink "ScaleInspectionModel" (228 : Nat) "ScaleInspectionModel" "sets" "I") ∈ lw_all := lw_g (lw_at lw_m7 119 rfl) rfl
theorem q1645 : (Jvm.Cond.fieldLink "ScaleInspectionModel" (32 : Nat) "ScaleInspectionModel" "weights" "[I") ∈ lw_all := lw_g (lw_at lw_m7 120 rfl) rfl
theorem q1646 : (Jvm.Cond.fieldLink "ScaleInspectionModel" (35 : Nat) "ScaleInspectionModel" "isMaybe" "[Z") ∈ lw_all := lw_g (lw_at lw_m7 121 rfl) rfl
theorem q1647 : (Jvm.Cond.fieldLink "ScaleInspectionModel" (39 : Nat) "ScaleInspectionModel" "term" "[I") ∈ lw_all := lw_g (lw_at lw_m7 122 rfl) rfl
theorem q1648 : (Jvm.Cond.fieldLink "ScaleInspectionModel" (42 : Nat) "ScaleInspectionModel" "text" "[B") ∈ lw_all := lw_g (lw_at lw_m7 123 rfl) rfl
theorem q1649 : (Jvm.Cond.fieldLink "ScaleInspectionModel" (94 : Nat) "ScaleInspectionModel" "length" "I") ∈ lw_all := lw_g (lw_at lw_m7 124 rfl) rfl
theorem q1650 : (Jvm.Cond.fieldLink "ScaleInspectionModel" (101 : Nat) "ScaleInspectionModel" "textSize" "I") ∈ lw_all := lw_g (lw_at lw_m7 125 rfl) rfl
theorem q1651 : (Jvm.Cond.fieldLink "ScaleInspectionModel" (111 : Nat) "ScaleInspectionModel" "start" "I") ∈ lw_all := lw_g (lw_at lw_m7 126 rfl) rfl
theorem q1652 : (Jvm.Cond.fieldLink "ScaleInspectionModel" (104 : Nat) "ScaleInspectionModel" "next" "I") ∈ lw_all := lw_g (lw_at lw_m7 127 rfl) rfl
theorem q1653 : (Jvm.Cond.fieldLink "ScaleInspectionModel" (117 : Nat) "ScaleInspectionModel" "token" "I") ∈ lw_all := lw_g (lw_at lw_m7 128 rfl) rfl
theorem q1654 : (Jvm.Cond.fieldLink "ScaleInspectionModel" (114 : Nat) "ScaleInspectionModel" "value" "I") ∈ lw_all := lw_g (lw_at lw_m7 129 rfl) rfl
theorem q1655 : (Jvm.Cond.fieldLink "ScaleInspectionModel" (141 : Nat) "ScaleInspectionModel" "error" "I") ∈ lw_all := lw_g (lw_at lw_m7 130 rfl) rfl
theorem q1656 : (Jvm.Cond.fieldLink "ScaleInspectionModel" (46 : Nat) "ScaleInspectionModel" "errorAt" "I") ∈ lw_all := lw_g (lw_at lw_m7 131 rfl) rfl
theorem q1657 : (Jvm.Cond.fieldLink "ScaleInspectionModel" (148 : Nat) "ScaleInspectionModel" "number" "I") ∈ lw_all := lw_g (lw_at lw_m7 132 rfl) rfl
theorem q1658 : (Jvm.Cond.fieldLink "ScaleInspectionModel" (154 : Nat) "ScaleInspectionModel" "draftTraders" "I") ∈ lw_all := lw_g (lw_at lw_m7 133 rfl) rfl
theorem q1659 : (Jvm.Cond.fieldLink "ScaleInspectionModel" (161 : Nat) "ScaleInspectionModel" "draftScales" "I") ∈ lw_all := lw_g (lw_at lw_m7 134 rfl) rfl
theorem q1660 : (Jvm.Cond.fieldLink "ScaleInspectionModel" (49 : Nat) "ScaleInspectionModel" "draftTrader" "[I") ∈ lw_all := lw_g (lw_at lw_m7 135 rfl) rfl
theorem q1661 : (Jvm.Cond.fieldLink "ScaleInspectionModel" (52 : Nat) "ScaleInspectionModel" "draftClass" "[I") ∈ lw_all := lw_g (lw_at lw_m7 136 rfl) rfl
theorem q1662 : (Jvm.Cond.fieldLink "ScaleInspectionModel" (55 : Nat) "ScaleInspectionModel" "draftDivision" "[I") ∈ lw_all := lw_g (lw_at lw_m7 137 rfl) rfl
theorem q1663 : (Jvm.Cond.fieldLink "ScaleInspectionModel" (58 : Nat) "ScaleInspectionModel" "draftCapacity" "[I") ∈ lw_all := lw_g (lw_at lw_m7 138 rfl) rfl
theorem q1664 : (Jvm.Cond.fieldLink "ScaleInspectionModel" (169 : Nat) "ScaleInspectionModel" "draftMasses" "I") ∈ lw_all := lw_g (lw_at lw_m7 139 rfl) rfl
theorem q1665 : (Jvm.Cond.fieldLink "ScaleInspectionModel" (61 : Nat) "ScaleInspectionModel" "draftMass" "[I") ∈ lw_all := lw_g (lw_at lw_m7 140 rfl) rfl
theorem q1666 : (Jvm.Cond.fieldLink "ScaleInspectionModel" (180 : Nat) "ScaleInspectionModel" "draftSets" "I") ∈ lw_all := lw_g (lw_at lw_m7 141 rfl) rfl
theorem q1667 : (Jvm.Cond.fieldLink "ScaleInspectionModel" (64 : Nat) "ScaleInspectionModel" "draftWeights" "[I") ∈ lw_all := lw_g (lw_at lw_m7 142 rfl) rfl
theorem q1668 : (Jvm.Cond.fieldLink "ScaleInspectionModel" (67 : Nat) "ScaleInspectionModel" "draftMaybe" "[Z") ∈ lw_all := lw_g (lw_at lw_m7 143 rfl) rfl
theorem q1669 : (Jvm.Cond.fieldLink "ScaleInspectionModel" (70 : Nat) "ScaleInspectionModel" "draftTerm" "[I") ∈ lw_all := lw_g (lw_at lw_m7 144 rfl) rfl
theorem q1670 : (Jvm.Cond.fieldLink "ScaleInspectionModel" (73 : Nat) "ScaleInspectionModel" "sums" "[I") ∈ lw_all := lw_g (lw_at lw_m7 145 rfl) rfl
theorem q1671 : (Jvm.Cond.fieldLink "ScaleInspectionModel" (76 : Nat) "ScaleInspectionModel" "risks" "[I") ∈ lw_all := lw_g (lw_at lw_m7 146 rfl) rfl
theorem q1672 : (Jvm.Cond.fieldLink "ScaleInspectionModel" (79 : Nat) "ScaleInspectionModel" "one" "[I") ∈ lw_all := lw_g (lw_at lw_m7 147 rfl) rfl
theorem q1673 : (Jvm.Cond.fieldLink "ScaleInspectionModel" (82 : Nat) "ScaleInspectionModel" "both" "[I") ∈ lw_all := lw_g (lw_at lw_m7 148 rfl) rfl
theorem q1674 : (Jvm.Cond.fieldLink "ScaleInspectionModel" (340 : Nat) "ScaleInspectionModel" "bestRight" "I") ∈ lw_all := lw_g (lw_at lw_m7 149 rfl) rfl
theorem q1675 : (Jvm.Cond.fieldLink "ScaleInspectionModel" (231 : Nat) "ScaleInspectionModel" "undos" "I") ∈ lw_all := lw_g (lw_at lw_m7 150 rfl) rfl
theorem q1676 : (Jvm.Cond.fieldLink "ScaleInspectionModel" (85 : Nat) "ScaleInspectionModel" "undo" "[I") ∈ lw_all := lw_g (lw_at lw_m7 151 rfl) rfl
theorem q1677 : (Jvm.Cond.fieldLink "ScaleInspectionModel" (88 : Nat) "ScaleInspectionModel" "slots" "[I") ∈ lw_all := lw_g (lw_at lw_m7 152 rfl) rfl
theorem q1678 : (Jvm.Cond.fieldLink "ScaleInspectionModel" (91 : Nat) "ScaleInspectionModel" "isSaved" "[Z") ∈ lw_all := lw_g (lw_at lw_m7 153 rfl) rfl
theorem q1679 : (Jvm.Cond.lays "ScaleInspectionModel" "ScaleInspectionModel" "thrown" "I") ∈ lw_all := lw_g (lw_at lw_m7 154 rfl) rfl
theorem q1680 : (Jvm.Cond.soleField "ScaleInspectionModel" "thrown") ∈ lw_all := lw_g (lw_at lw_m7 155 rfl) rfl
theorem q1681 : (Jvm.Cond.laysFinal "ScaleInspectionModel" "ScaleInspectionModel" "now" "[I") ∈ lw_all := lw_g (lw_at lw_m7 156 rfl) rfl
theorem q1682 : (Jvm.Cond.soleField "ScaleInspectionModel" "now") ∈ lw_all := lw_g (lw_at lw_m7 157 rfl) rfl
theorem q1683 : (Jvm.Cond.lays "ScaleInspectionModel" "ScaleInspectionModel" "traders" "I") ∈ lw_all := lw_g (lw_at lw_m7 158 rfl) rfl
theorem q1684 : (Jvm.Cond.soleField "ScaleInspectionModel" "traders") ∈ lw_all := lw_g (lw_at lw_m7 159 rfl) rfl
theorem q1685 : (Jvm.Cond.lays "ScaleInspectionModel" "ScaleInspectionModel" "scales" "I") ∈ lw_all := lw_g (lw_at lw_m7 160 rfl) rfl
theorem q1686 : (Jvm.Cond.soleField "ScaleInspectionModel" "scales") ∈ lw_all := lw_g (lw_at lw_m7 161 rfl) rfl
theorem q1687 : (Jvm.Cond.laysFinal "ScaleInspectionModel" "ScaleInspectionModel" "scaleTrader" "[I") ∈ lw_all := lw_g (lw_at lw_m7 162 rfl) rfl
theorem q1688 : (Jvm.Cond.soleField "ScaleInspectionModel" "scaleTrader") ∈ lw_all := lw_g (lw_at lw_m7 163 rfl) rfl
theorem q1689 : (Jvm.Cond.laysFinal "ScaleInspectionModel" "ScaleInspectionModel" "scaleClass" "[I") ∈ lw_all := lw_g (lw_at lw_m7 164 rfl) rfl
theorem q1690 : (Jvm.Cond.soleField "ScaleInspectionModel" "scaleClass") ∈ lw_all := lw_g (lw_at lw_m7 165 rfl) rfl
theorem q1691 : (Jvm.Cond.laysFinal "ScaleInspectionModel" "ScaleInspectionModel" "division" "[I") ∈ lw_all := lw_g (lw_at lw_m7 166 rfl) rfl
theorem q1692 : (Jvm.Cond.soleField "ScaleInspectionModel" "division") ∈ lw_all := lw_g (lw_at lw_m7 167 rfl) rfl
theorem q1693 : (Jvm.Cond.laysFinal "ScaleInspectionModel" "ScaleInspectionModel" "capacity" "[I") ∈ lw_all := lw_g (lw_at lw_m7 168 rfl) rfl
theorem q1694 : (Jvm.Cond.soleField "ScaleInspectionModel" "capacity") ∈ lw_all := lw_g (lw_at lw_m7 169 rfl) rfl
theorem q1695 : (Jvm.Cond.lays "ScaleInspectionModel" "ScaleInspectionModel" "masses" "I") ∈ lw_all := lw_g (lw_at lw_m7 170 rfl) rfl
theorem q1696 : (Jvm.Cond.soleField "ScaleInspectionModel" "masses") ∈ lw_all := lw_g (lw_at lw_m7 171 rfl) rfl
theorem q1697 : (Jvm.Cond.laysFinal "ScaleInspectionModel" "ScaleInspectionModel" "mass" "[I") ∈ lw_all := lw_g (lw_at lw_m7 172 rfl) rfl
theorem q1698 : (Jvm.Cond.soleField "ScaleInspectionModel" "mass") ∈ lw_all := lw_g (lw_at lw_m7 173 rfl) rfl
theorem q1699 : (Jvm.Cond.lays "ScaleInspectionModel" "ScaleInspectionModel" "sets" "I") ∈ lw_all := lw_g (lw_at lw_m7 174 rfl) rfl
theorem q1700 : (Jvm.Cond.soleField "ScaleInspectionModel" "sets") ∈ lw_all := lw_g (lw_at lw_m7 175 rfl) rfl
theorem q1701 : (Jvm.Cond.laysFinal "ScaleInspectionModel" "ScaleInspectionModel" "weights" "[I") ∈ lw_all := lw_g (lw_at lw_m7 176 rfl) rfl
theorem q1702 : (Jvm.Cond.soleField "ScaleInspectionModel" "weights") ∈ lw_all := lw_g (lw_at lw_m7 177 rfl) rfl
theorem q1703 : (Jvm.Cond.laysFinal "ScaleInspectionModel" "ScaleInspectionModel" "isMaybe" "[Z") ∈ lw_all := lw_g (lw_at lw_m7 178 rfl) rfl
theorem q1704 : (Jvm.Cond.soleField "ScaleInspectionModel" "isMaybe") ∈ lw_all := lw_g (lw_at lw_m7 179 rfl) rfl
theorem q1705 : (Jvm.Cond.laysFinal "ScaleInspectionModel" "ScaleInspectionModel" "term" "[I") ∈ lw_all := lw_g (lw_at lw_m7 180 rfl) rfl
theorem q1706 : (Jvm.Cond.soleField "ScaleInspectionModel" "term") ∈ lw_all := lw_g (lw_at lw_m7 181 rfl) rfl
theorem q1707 : (Jvm.Cond.laysFinal "ScaleInspectionModel" "ScaleInspectionModel" "text" "[B") ∈ lw_all := lw_g (lw_at lw_m7 182 rfl) rfl
theorem q1708 : (Jvm.Cond.soleField "ScaleInspectionModel" "text") ∈ lw_all := lw_g (lw_at lw_m7 183 rfl) rfl
theorem q1709 : (Jvm.Cond.lays "ScaleInspectionModel" "ScaleInspectionModel" "length" "I") ∈ lw_all := lw_g (lw_at lw_m7 184 rfl) rfl
theorem q1710 : (Jvm.Cond.soleField "ScaleInspectionModel" "length") ∈ lw_all := lw_g (lw_at lw_m7 185 rfl) rfl
theorem q1711 : (Jvm.Cond.lays "ScaleInspectionModel" "ScaleInspectionModel" "textSize" "I") ∈ lw_all := lw_g (lw_at lw_m7 186 rfl) rfl
theorem q1712 : (Jvm.Cond.soleField "ScaleInspectionModel" "textSize") ∈ lw_all := lw_g (lw_at lw_m7 187 rfl) rfl
theorem q1713 : (Jvm.Cond.lays "ScaleInspectionModel" "ScaleInspectionModel" "start" "I") ∈ lw_all := lw_g (lw_at lw_m7 188 rfl) rfl
theorem q1714 : (Jvm.Cond.soleField "ScaleInspectionModel" "start") ∈ lw_all := lw_g (lw_at lw_m7 189 rfl) rfl
theorem q1715 : (Jvm.Cond.lays "ScaleInspectionModel" "ScaleInspectionModel" "next" "I") ∈ lw_all := lw_g (lw_at lw_m7 190 rfl) rfl
theorem q1716 : (Jvm.Cond.soleField "ScaleInspectionModel" "next") ∈ lw_all := lw_g (lw_at lw_m7 191 rfl) rfl
theorem q1717 : (Jvm.Cond.lays "ScaleInspectionModel" "ScaleInspectionModel" "token" "I") ∈ lw_all := lw_g (lw_at lw_m7 192 rfl) rfl
theorem q1718 : (Jvm.Cond.soleField "ScaleInspectionModel" "token") ∈ lw_all := lw_g (lw_at lw_m7 193 rfl) rfl
theorem q1719 : (Jvm.Cond.lays "ScaleInspectionModel" "ScaleInspectionModel" "value" "I") ∈ lw_all := lw_g (lw_at lw_m7 194 rfl) rfl
theorem q1720 : (Jvm.Cond.soleField "ScaleInspectionModel" "value") ∈ lw_all := lw_g (lw_at lw_m7 195 rfl) rfl
theorem q1721 : (Jvm.Cond.lays "ScaleInspectionModel" "ScaleInspectionModel" "error" "I") ∈ lw_all := lw_g (lw_at lw_m7 196 rfl) rfl
theorem q1722 : (Jvm.Cond.soleField "ScaleInspectionModel" "error") ∈ lw_all := lw_g (lw_at lw_m7 197 rfl) rfl
theorem q1723 : (Jvm.Cond.lays "ScaleInspectionModel" "ScaleInspectionModel" "errorAt" "I") ∈ lw_all := lw_g (lw_at lw_m7 198 rfl) rfl
theorem q1724 : (Jvm.Cond.soleField "ScaleInspectionModel" "errorAt") ∈ lw_all := lw_g (lw_at lw_m7 199 rfl) rfl
theorem q1725 : (Jvm.Cond.lays "ScaleInspectionModel" "ScaleInspectionModel" "number" "I") ∈ lw_all := lw_g (lw_at lw_m7 200 rfl) rfl
theorem q1726 : (Jvm.Cond.soleField "ScaleInspectionModel" "number") ∈ lw_all := lw_g (lw_at lw_m7 201 rfl) rfl
theorem q1727 : (Jvm.Cond.lays "ScaleInspectionModel" "ScaleInspectionModel" "draftTraders" "I") ∈ lw_all := lw_g (lw_at lw_m7 202 rfl) rfl
theorem q1728 : (Jvm.Cond.soleField "ScaleInspectionModel" "draftTraders") ∈ lw_all := lw_g (lw_at lw_m7 203 rfl) rfl
theorem q1729 : (Jvm.Cond.lays "ScaleInspectionModel" "ScaleInspectionModel" "draftScales" "I") ∈ lw_all := lw_g (lw_at lw_m7 204 rfl) rfl
theorem q1730 : (Jvm.Cond.soleField "ScaleInspectionModel" "draftScales") ∈ lw_all := lw_g (lw_at lw_m7 205 rfl) rfl
theorem q1731 : (Jvm.Cond.laysFinal "ScaleInspectionModel" "ScaleInspectionModel" "draftTrader" "[I") ∈ lw_all := lw_g (lw_at lw_m7 206 rfl) rfl
theorem q1732 : (Jvm.Cond.soleField "ScaleInspectionModel" "draftTrader") ∈ lw_all := lw_g (lw_at lw_m7 207 rfl) rfl
theorem q1733 : (Jvm.Cond.laysFinal "ScaleInspectionModel" "ScaleInspectionModel" "draftClass" "[I") ∈ lw_all := lw_g (lw_at lw_m7 208 rfl) rfl
theorem q1734 : (Jvm.Cond.soleField "ScaleInspectionModel" "draftClass") ∈ lw_all := lw_g (lw_at lw_m7 209 rfl) rfl
theorem q1735 : (Jvm.Cond.laysFinal "ScaleInspectionModel" "ScaleInspectionModel" "draftDivision" "[I") ∈ lw_all := lw_g (lw_at lw_m7 210 rfl) rfl
theorem q1736 : (Jvm.Cond.soleField "ScaleInspectionModel" "draftDivision") ∈ lw_all := lw_g (lw_at lw_m7 211 rfl) rfl
theorem q1737 : (Jvm.Cond.laysFinal "ScaleInspectionModel" "ScaleInspectionModel" "draftCapacity" "[I") ∈ lw_all := lw_g (lw_at lw_m7 212 rfl) rfl
theorem q1738 : (Jvm.Cond.soleField "ScaleInspectionModel" "draftCapacity") ∈ lw_all := lw_g (lw_at lw_m7 213 rfl) rfl
theorem q1739 : (Jvm.Cond.lays "ScaleInspectionModel" "ScaleInspectionModel" "draftMasses" "I") ∈ lw_all := lw_g (lw_at lw_m7 214 rfl) rfl
theorem q1740 : (Jvm.Cond.soleField "ScaleInspectionModel" "draftMasses") ∈ lw_all := lw_g (lw_at lw_m7 215 rfl) rfl
theorem q1741 : (Jvm.Cond.laysFinal "ScaleInspectionModel" "ScaleInspectionModel" "draftMass" "[I") ∈ lw_all := lw_g (lw_at lw_m7 216 rfl) rfl
theorem q1742 : (Jvm.Cond.soleField "ScaleInspectionModel" "draftMass") ∈ lw_all := lw_g (lw_at lw_m7 217 rfl) rfl
theorem q1743 : (Jvm.Cond.lays "ScaleInspectionModel" "ScaleInspectionModel" "draftSets" "I") ∈ lw_all := lw_g (lw_at lw_m7 218 rfl) rfl
theorem q1744 : (Jvm.Cond.soleField "ScaleInspectionModel" "draftSets") ∈ lw_all := lw_g (lw_at lw_m7 219 rfl) rfl
theorem q1745 : (Jvm.Cond.laysFinal "ScaleInspectionModel" "ScaleInspectionModel" "draftWeights" "[I") ∈ lw_all := lw_g (lw_at lw_m7 220 rfl) rfl
theorem q1746 : (Jvm.Cond.soleField "ScaleInspectionModel" "draftWeights") ∈ lw_all := lw_g (lw_at lw_m7 221 rfl) rfl
theorem q1747 : (Jvm.Cond.laysFinal "ScaleInspectionModel" "ScaleInspectionModel" "draftMaybe" "[Z") ∈ lw_all := lw_g (lw_at lw_m7 222 rfl) rfl
theorem q1748 : (Jvm.Cond.soleField "ScaleInspectionModel" "draftMaybe") ∈ lw_all := lw_g (lw_at lw_m7 223 rfl) rfl
theorem q1749 : (Jvm.Cond.laysFinal "ScaleInspectionModel" "ScaleInspectionModel" "draftTerm" "[I") ∈ lw_all := lw_g (lw_at lw_m7 224 rfl) rfl
theorem q1750 : (Jvm.Cond.soleField "ScaleInspectionModel" "draftTerm") ∈ lw_all := lw_g (lw_at lw_m7 225 rfl) rfl
theorem q1751 : (Jvm.Cond.laysFinal "ScaleInspectionModel" "ScaleInspectionModel" "sums" "[I") ∈ lw_all := lw_g (lw_at lw_m7 226 rfl) rfl
theorem q1752 : (Jvm.Cond.soleField "ScaleInspectionModel" "sums") ∈ lw_all := lw_g (lw_at lw_m7 227 rfl) rfl
theorem q1753 : (Jvm.Cond.laysFinal "ScaleInspectionModel" "ScaleInspectionModel" "risks" "[I") ∈ lw_all := lw_g (lw_at lw_m7 228 rfl) rfl
theorem q1754 : (Jvm.Cond.soleField "ScaleInspectionModel" "risks") ∈ lw_all := lw_g (lw_at lw_m7 229 rfl) rfl
theorem q1755 : (Jvm.Cond.laysFinal "ScaleInspectionModel" "ScaleInspectionModel" "one" "[I") ∈ lw_all := lw_g (lw_at lw_m7 230 rfl) rfl
theorem q1756 : (Jvm.Cond.soleField "ScaleInspectionModel" "one") ∈ lw_all := lw_g (lw_at lw_m7 231 rfl) rfl
theorem q1757 : (Jvm.Cond.laysFinal "ScaleInspectionModel" "ScaleInspectionModel" "both" "[I") ∈ lw_all := lw_g (lw_at lw_m7 232 rfl) rfl
theorem q1758 : (Jvm.Cond.soleField "ScaleInspectionModel" "both") ∈ lw_all := lw_g (lw_at lw_m7 233 rfl) rfl
theorem q1759 : (Jvm.Cond.lays "ScaleInspectionModel" "ScaleInspectionModel" "bestRight" "I") ∈ lw_all := lw_g (lw_at lw_m7 234 rfl) rfl
theorem q1760 : (Jvm.Cond.soleField "ScaleInspectionModel" "bestRight") ∈ lw_all := lw_g (lw_at lw_m7 235 rfl) rfl
theorem q1761 : (Jvm.Cond.lays "ScaleInspectionModel" "ScaleInspectionModel" "undos" "I") ∈ lw_all := lw_g (lw_at lw_m7 236 rfl) rfl
theorem q1762 : (Jvm.Cond.soleField "ScaleInspectionModel" "undos") ∈ lw_all := lw_g (lw_at lw_m7 237 rfl) rfl
theorem q1763 : (Jvm.Cond.laysFinal "ScaleInspectionModel" "ScaleInspectionModel" "undo" "[I") ∈ lw_all := lw_g (lw_at lw_m7 238 rfl) rfl
theorem q1764 : (Jvm.Cond.soleField "ScaleInspectionModel" "undo") ∈ lw_all := lw_g (lw_at lw_m7 239 rfl) rfl
theorem q1765 : (Jvm.Cond.laysFinal "ScaleInspectionModel" "ScaleInspectionModel" "slots" "[I") ∈ lw_all := lw_g (lw_at lw_m8 0 rfl) rfl
theorem q1766 : (Jvm.Cond.soleField "ScaleInspectionModel" "slots") ∈ lw_all := lw_g (lw_at lw_m8 1 rfl) rfl
theorem q1767 : (Jvm.Cond.laysFinal "ScaleInspectionModel" "ScaleInspectionModel" "isSaved" "[Z") ∈ lw_all := lw_g (lw_at lw_m8 2 rfl) rfl
theorem q1768 : (Jvm.Cond.soleField "ScaleInspectionModel" "isSaved") ∈ lw_all := lw_g (lw_at lw_m8 3 rfl) rfl
theorem q1769 : (Jvm.Cond.superclass "ScaleInspectionModel" "java/lang/Object") ∈ lw_all := lw_g (lw_at lw_m8 4 rfl) rfl
theorem q1772 : (Jvm.Cond.instanceMethod ({ cls := "ScaleInspectionModel", name := "append", desc := "(IIIII)I" } : Jvm.MethodName)) ∈ lw_all := lw_g (lw_at lw_m8 7 rfl) rfl
theorem q1773 : (Jvm.Cond.selects "ScaleInspectionModel" ({ cls := "ScaleInspectionModel", name := "append", desc := "(IIIII)I" } : Jvm.MethodName) ({ cls := "ScaleInspectionModel", name := "append", desc := "(IIIII)I" } : Jvm.MethodName)) ∈ lw_all := lw_g (lw_at lw_m8 8 rfl) rfl
theorem q1774 : (Jvm.Cond.code ({ cls := "ScaleInspectionModel", name := "append", desc := "(IIIII)I" } : Jvm.MethodName) prog_21_method_6_code (6 : Nat) (Option.some Jvm.ClassFile.FieldType.int)) ∈ lw_all := lw_g (lw_at lw_m8 9 rfl) rfl
theorem q1775 : (Jvm.Cond.methodLink "ScaleInspectionModel" (97 : Nat) ({ cls := "ScaleInspectionModel", name := "bytesOf", desc := "(I)V" } : Jvm.MethodName)) ∈ lw_all := lw_g (lw_at lw_m8 10 rfl) rfl
theorem q1776 : (Jvm.Cond.privateMethod ({ cls := "ScaleInspectionModel", name := "bytesOf", desc := "(I)V" } : Jvm.MethodName)) ∈ lw_tbl := lw_at lw_m8 11 rfl
theorem q1777 : (Jvm.Cond.instanceMethod ({ cls := "ScaleInspectionModel", name := "bytesOf", desc := "(I)V" } : Jvm.MethodName)) ∈ lw_all := lw_g (lw_at lw_m8 12 rfl) rfl
theorem q1778 : (Jvm.Cond.code ({ cls := "ScaleInspectionModel", name := "bytesOf", desc := "(I)V" } : Jvm.MethodName) prog_21_method_7_code (3 : Nat) (Option.none : Option Jvm.ClassFile.FieldType)) ∈ lw_all := lw_g (lw_at lw_m8 13 rfl) rfl
theorem q1780 : (Jvm.Cond.instanceMethod ({ cls := "ScaleInspectionModel", name := "parse", desc := "(I)I" } : Jvm.MethodName)) ∈ lw_all := lw_g (lw_at lw_m8 15 rfl) rfl
theorem q1781 : (Jvm.Cond.selects "ScaleInspectionModel" ({ cls := "ScaleInspectionModel", name := "parse", desc := "(I)I" } : Jvm.MethodName) ({ cls := "ScaleInspectionModel", name := "parse", desc := "(I)I" } : Jvm.MethodName)) ∈ lw_all := lw_g (lw_at lw_m8 16 rfl) rfl
theorem q1782 : (Jvm.Cond.code ({ cls := "ScaleInspectionModel", name := "parse", desc := "(I)I" } : Jvm.MethodName) prog_21_method_20_code (3 : Nat) (Option.some Jvm.ClassFile.FieldType.int)) ∈ lw_all := lw_g (lw_at lw_m8 17 rfl) rfl
theorem q1783 : (Jvm.Cond.methodLink "ScaleInspectionModel" (124 : Nat) ({ cls := "ScaleInspectionModel", name := "within", desc := "(JJJ)Z" } : Jvm.MethodName)) ∈ lw_all := lw_g (lw_at lw_m8 18 rfl) rfl
theorem q1784 : (Jvm.Cond.static ({ cls := "ScaleInspectionModel", name := "within", desc := "(JJJ)Z" } : Jvm.MethodName)) ∈ lw_all := lw_g (lw_at lw_m8 19 rfl) rfl
theorem q1785 : (Jvm.Cond.code ({ cls := "ScaleInspectionModel", name := "within", desc := "(JJJ)Z" } : Jvm.MethodName) prog_21_method_2_code (6 : Nat) (Option.some Jvm.ClassFile.FieldType.boolean)) ∈ lw_all := lw_g (lw_at lw_m8 20 rfl) rfl
theorem q1786 : (Jvm.Cond.methodLink "ScaleInspectionModel" (151 : Nat) ({ cls := "ScaleInspectionModel", name := "advance", desc := "()V" } : Jvm.MethodName)) ∈ lw_all := lw_g (lw_at lw_m8 21 rfl) rfl
theorem q1787 : (Jvm.Cond.privateMethod ({ cls := "ScaleInspectionModel", name := "advance", desc := "()V" } : Jvm.MethodName)) ∈ lw_tbl := lw_at lw_m8 22 rfl
theorem q1788 : (Jvm.Cond.instanceMethod ({ cls := "ScaleInspectionModel", name := "advance", desc := "()V" } : Jvm.MethodName)) ∈ lw_all := lw_g (lw_at lw_m8 23 rfl) rfl
theorem q1789 : (Jvm.Cond.code ({ cls := "ScaleInspectionModel", name := "advance", desc := "()V" } : Jvm.MethodName) prog_21_method_9_code (2 : Nat) (Option.none : Option Jvm.ClassFile.FieldType)) ∈ lw_all := lw_g (lw_at lw_m8 24 rfl) rfl
theorem q1790 : (Jvm.Cond.methodLink "ScaleInspectionModel" (107 : Nat) ({ cls := "ScaleInspectionModel", name := "byteAt", desc := "(I)I" } : Jvm.MethodName)) ∈ lw_all := lw_g (lw_at lw_m8 25 rfl) rfl
theorem q1791 : (Jvm.Cond.privateMethod ({ cls := "ScaleInspectionModel", name := "byteAt", desc := "(I)I" } : Jvm.MethodName)) ∈ lw_tbl := lw_at lw_m8 26 rfl
theorem q1792 : (Jvm.Cond.instanceMethod ({ cls := "ScaleInspectionModel", name := "byteAt", desc := "(I)I" } : Jvm.MethodName)) ∈ lw_all := lw_g (lw_at lw_m8 27 rfl) rfl
theorem q1793 : (Jvm.Cond.code ({ cls := "ScaleInspectionModel", name := "byteAt", desc := "(I)I" } : Jvm.MethodName) prog_21_method_8_code (2 : Nat) (Option.some Jvm.ClassFile.FieldType.int)) ∈ lw_all := lw_g (lw_at lw_m8 28 rfl) rfl
theorem q1794 : (Jvm.Cond.constantLong "ScaleInspectionModel" (120 : Nat) (97 : Int64)) ∈ lw_all := lw_g (lw_at lw_m8 29 rfl) rfl
theorem q1795 : (Jvm.Cond.constantLong "ScaleInspectionModel" (122 : Nat) (122 : Int64)) ∈ lw_all := lw_g (lw_at lw_m8 30 rfl) rfl
theorem q1796 : (Jvm.Cond.constantLong "ScaleInspectionModel" (128 : Nat) (48 : Int64)) ∈ lw_all := lw_g (lw_at lw_m8 31 rfl) rfl
theorem q1797 : (Jvm.Cond.constantLong "ScaleInspectionModel" (130 : Nat) (57 : Int64)) ∈ lw_all := lw_g (lw_at lw_m8 32 rfl) rfl
theorem q1798 : (Jvm.Cond.methodLink "ScaleInspectionModel" (209 : Nat) ({ cls := "ScaleInspectionModel", name := "statement", desc := "()Z" } : Jvm.MethodName)) ∈ lw_all := lw_g (lw_at lw_m8 33 rfl) rfl
theorem q1799 : (Jvm.Cond.privateMethod ({ cls := "ScaleInspectionModel", name := "statement", desc := "()Z" } : Jvm.MethodName)) ∈ lw_tbl := lw_at lw_m8 34 rfl
theorem q1800 : (Jvm.Cond.instanceMethod ({ cls := "ScaleInspectionModel", name := "statement", desc := "()Z" } : Jvm.MethodName)) ∈ lw_all := lw_g (lw_at lw_m8 35 rfl) rfl
theorem q1801 : (Jvm.Cond.code ({ cls := "ScaleInspectionModel", name := "statement", desc := "()Z" } : Jvm.MethodName) prog_21_method_19_code (2 : Nat) (Option.some Jvm.ClassFile.FieldType.boolean)) ∈ lw_all := lw_g (lw_at lw_m8 36 rfl) rfl
theorem q1802 : (Jvm.Cond.stringRef "ScaleInspectionModel" (185 : Nat) "trader") ∈ lw_tbl := lw_at lw_m8 37 rfl
theorem q1803 : (Jvm.Cond.methodLink "ScaleInspectionModel" (174 : Nat) ({ cls := "ScaleInspectionModel", name := "isWord", desc := "(Ljava/lang/String;)Z" } : Jvm.MethodName)) ∈ lw_all := lw_g (lw_at lw_m8 38 rfl) rfl
theorem q1804 : (Jvm.Cond.privateMethod ({ cls := "ScaleInspectionModel", name := "isWord", desc := "(Ljava/lang/String;)Z" } : Jvm.MethodName)) ∈ lw_tbl := lw_at lw_m8 39 rfl
theorem q1805 : (Jvm.Cond.instanceMethod ({ cls := "ScaleInspectionModel", name := "isWord", desc := "(Ljava/lang/String;)Z" } : Jvm.MethodName)) ∈ lw_all := lw_g (lw_at lw_m8 40 rfl) rfl
theorem q1806 : (Jvm.Cond.code ({ cls := "ScaleInspectionModel", name := "isWord", desc := "(Ljava/lang/String;)Z" } : Jvm.MethodName) prog_21_method_10_code (4 : Nat) (Option.some Jvm.ClassFile.FieldType.boolean)) ∈ lw_all := lw_g (lw_at lw_m8 41 rfl) rfl
theorem q1807 : (Jvm.Cond.methodLink "ScaleInspectionModel" (132 : Nat) ({ cls := "java/lang/String", name := "length", desc := "()I" } : Jvm.MethodName)) ∈ lw_all := lw_g (lw_at lw_m8 42 rfl) rfl
theorem q1808 : (Jvm.Cond.methodLink "ScaleInspectionModel" (137 : Nat) ({ cls := "java/lang/String", name := "charAt", desc := "(I)C" } : Jvm.MethodName)) ∈ lw_all := lw_g (lw_at lw_m8 43 rfl) rfl
theorem q1823 : (Jvm.Cond.methodLink "ScaleInspectionModel" (187 : Nat) ({ cls := "ScaleInspectionModel", name := "traderLine", desc := "()Z" } : Jvm.MethodName)) ∈ lw_all := lw_g (lw_at lw_m8 58 rfl) rfl
theorem q1824 : (Jvm.Cond.privateMethod ({ cls := "ScaleInspectionModel", name := "traderLine", desc := "()Z" } : Jvm.MethodName)) ∈ lw_tbl := lw_at lw_m8 59 rfl
theorem q1825 : (Jvm.Cond.instanceMethod ({ cls := "ScaleInspectionModel", name := "traderLine", desc := "()Z" } : Jvm.MethodName)) ∈ lw_all := lw_g (lw_at lw_m8 60 rfl) rfl
theorem q1826 : (Jvm.Cond.code ({ cls := "ScaleInspectionModel", name := "traderLine", desc := "()Z" } : Jvm.MethodName) prog_21_method_14_code (1 : Nat) (Option.some Jvm.ClassFile.FieldType.boolean)) ∈ lw_all := lw_g (lw_at lw_m8 61 rfl) rfl
theorem q1827 : (Jvm.Cond.methodLink "ScaleInspectionModel" (157 : Nat) ({ cls := "ScaleInspectionModel", name := "begins", desc := "(Z)Z" } : Jvm.MethodName)) ∈ lw_all := lw_g (lw_at lw_m8 62 rfl) rfl
theorem q1828 : (Jvm.Cond.privateMethod ({ cls := "ScaleInspectionModel", name := "begins", desc := "(Z)Z" } : Jvm.MethodName)) ∈ lw_tbl := lw_at lw_m8 63 rfl
theorem q1829 : (Jvm.Cond.instanceMethod ({ cls := "ScaleInspectionModel", name := "begins", desc := "(Z)Z" } : Jvm.MethodName)) ∈ lw_all := lw_g (lw_at lw_m8 64 rfl) rfl
theorem q1830 : (Jvm.Cond.code ({ cls := "ScaleInspectionModel", name := "begins", desc := "(Z)Z" } : Jvm.MethodName) prog_21_method_13_code (2 : Nat) (Option.some Jvm.ClassFile.FieldType.boolean)) ∈ lw_all := lw_g (lw_at lw_m8 65 rfl) rfl
theorem q1831 : (Jvm.Cond.methodLink "ScaleInspectionModel" (144 : Nat) ({ cls := "ScaleInspectionModel", name := "fails", desc := "(I)Z" } : Jvm.MethodName)) ∈ lw_all := lw_g (lw_at lw_m8 66 rfl) rfl
theorem q1832 : (Jvm.Cond.privateMethod ({ cls := "ScaleInspectionModel", name := "fails", desc := "(I)Z" } : Jvm.MethodName)) ∈ lw_tbl := lw_at lw_m8 67 rfl
theorem q1833 : (Jvm.Cond.instanceMethod ({ cls := "ScaleInspectionModel", name := "fails", desc := "(I)Z" } : Jvm.MethodName)) ∈ lw_all := lw_g (lw_at lw_m8 68 rfl) rfl
theorem q1834 : (Jvm.Cond.code ({ cls := "ScaleInspectionModel", name := "fails", desc := "(I)Z" } : Jvm.MethodName) prog_21_method_11_code (2 : Nat) (Option.some Jvm.ClassFile.FieldType.boolean)) ∈ lw_all := lw_g (lw_at lw_m8 69 rfl) rfl
theorem q1835 : (Jvm.Cond.stringRef "ScaleInspectionModel" (191 : Nat) "scale") ∈ lw_tbl := lw_at lw_m8 70 rfl
theorem q1836 : (Jvm.Cond.methodLink "ScaleInspectionModel" (193 : Nat) ({ cls := "ScaleInspectionModel", name := "scaleLine", desc := "()Z" } : Jvm.MethodName)) ∈ lw_all := lw_g (lw_at lw_m8 71 rfl) rfl
theorem q1837 : (Jvm.Cond.privateMethod ({ cls := "ScaleInspectionModel", name := "scaleLine", desc := "()Z" } : Jvm.MethodName)) ∈ lw_tbl := lw_at lw_m8 72 rfl
theorem q1838 : (Jvm.Cond.instanceMethod ({ cls := "ScaleInspectionModel", name := "scaleLine", desc := "()Z" } : Jvm.MethodName)) ∈ lw_all := lw_g (lw_at lw_m8 73 rfl) rfl
theorem q1839 : (Jvm.Cond.code ({ cls := "ScaleInspectionModel", name := "scaleLine", desc := "()Z" } : Jvm.MethodName) prog_21_method_15_code (2 : Nat) (Option.some Jvm.ClassFile.FieldType.boolean)) ∈ lw_all := lw_g (lw_at lw_m8 74 rfl) rfl
theorem q1840 : (Jvm.Cond.methodLink "ScaleInspectionModel" (164 : Nat) ({ cls := "ScaleInspectionModel", name := "takes", desc := "(II)Z" } : Jvm.MethodName)) ∈ lw_all := lw_g (lw_at lw_m8 75 rfl) rfl
theorem q1841 : (Jvm.Cond.privateMethod ({ cls := "ScaleInspectionModel", name := "takes", desc := "(II)Z" } : Jvm.MethodName)) ∈ lw_tbl := lw_at lw_m8 76 rfl
theorem q1842 : (Jvm.Cond.instanceMethod ({ cls := "ScaleInspectionModel", name := "takes", desc := "(II)Z" } : Jvm.MethodName)) ∈ lw_all := lw_g (lw_at lw_m8 77 rfl) rfl
theorem q1843 : (Jvm.Cond.code ({ cls := "ScaleInspectionModel", name := "takes", desc := "(II)Z" } : Jvm.MethodName) prog_21_method_12_code (3 : Nat) (Option.some Jvm.ClassFile.FieldType.boolean)) ∈ lw_all := lw_g (lw_at lw_m8 78 rfl) rfl
theorem q1844 : (Jvm.Cond.constant "ScaleInspectionModel" (168 : Nat) (999999 : Int32)) ∈ lw_all := lw_g (lw_at lw_m8 79 rfl) rfl
theorem q1845 : (Jvm.Cond.stringRef "ScaleInspectionModel" (196 : Nat) "mass") ∈ lw_tbl := lw_at lw_m8 80 rfl
theorem q1846 : (Jvm.Cond.methodLink "ScaleInspectionModel" (197 : Nat) ({ cls := "ScaleInspectionModel", name := "massLine", desc := "()Z" } : Jvm.MethodName)) ∈ lw_all := lw_g (lw_at lw_m8 81 rfl) rfl
theorem q1847 : (Jvm.Cond.privateMethod ({ cls := "ScaleInspectionModel", name := "massLine", desc := "()Z" } : Jvm.MethodName)) ∈ lw_tbl := lw_at lw_m8 82 rfl
theorem q1848 : (Jvm.Cond.instanceMethod ({ cls := "ScaleInspectionModel", name := "massLine", desc := "()Z" } : Jvm.MethodName)) ∈ lw_all := lw_g (lw_at lw_m8 83 rfl) rfl
theorem q1849 : (Jvm.Cond.code ({ cls := "ScaleInspectionModel", name := "massLine", desc := "()Z" } : Jvm.MethodName) prog_21_method_16_code (4 : Nat) (Option.some Jvm.ClassFile.FieldType.boolean)) ∈ lw_all := lw_g (lw_at lw_m8 84 rfl) rfl
theorem q1850 : (Jvm.Cond.stringRef "ScaleInspectionModel" (172 : Nat) "plus") ∈ lw_tbl := lw_at lw_m8 85 rfl
theorem q1851 : (Jvm.Cond.stringRef "ScaleInspectionModel" (178 : Nat) "minus") ∈ lw_tbl := lw_at lw_m8 86 rfl
theorem q1852 : (Jvm.Cond.stringRef "ScaleInspectionModel" (200 : Nat) "set") ∈ lw_tbl := lw_at lw_m8 87 rfl
theorem q1853 : (Jvm.Cond.methodLink "ScaleInspectionModel" (202 : Nat) ({ cls := "ScaleInspectionModel", name := "setLine", desc := "()Z" } : Jvm.MethodName)) ∈ lw_all := lw_g (lw_at lw_m8 88 rfl) rfl
theorem q1854 : (Jvm.Cond.privateMethod ({ cls := "ScaleInspectionModel", name := "setLine", desc := "()Z" } : Jvm.MethodName)) ∈ lw_tbl := lw_at lw_m8 89 rfl
theorem q1855 : (Jvm.Cond.instanceMethod ({ cls := "ScaleInspectionModel", name := "setLine", desc := "()Z" } : Jvm.MethodName)) ∈ lw_all := lw_g (lw_at lw_m8 90 rfl) rfl
theorem q1856 : (Jvm.Cond.code ({ cls := "ScaleInspectionModel", name := "setLine", desc := "()Z" } : Jvm.MethodName) prog_21_method_17_code (2 : Nat) (Option.some Jvm.ClassFile.FieldType.boolean)) ∈ lw_all := lw_g (lw_at lw_m8 91 rfl) rfl
theorem q1857 : (Jvm.Cond.stringRef "ScaleInspectionModel" (183 : Nat) "maybe") ∈ lw_tbl := lw_at lw_m8 92 rfl
theorem q1858 : (Jvm.Cond.stringRef "ScaleInspectionModel" (205 : Nat) "term") ∈ lw_tbl := lw_at lw_m8 93 rfl
theorem q1859 : (Jvm.Cond.methodLink "ScaleInspectionModel" (206 : Nat) ({ cls := "ScaleInspectionModel", name := "termLine", desc := "()Z" } : Jvm.MethodName)) ∈ lw_all := lw_g (lw_at lw_m8 94 rfl) rfl
theorem q1860 : (Jvm.Cond.privateMethod ({ cls := "ScaleInspectionModel", name := "termLine", desc := "()Z" } : Jvm.MethodName)) ∈ lw_tbl := lw_at lw_m8 95 rfl
theorem q1861 : (Jvm.Cond.instanceMethod ({ cls := "ScaleInspectionModel", name := "termLine", desc := "()Z" } : Jvm.MethodName)) ∈ lw_all := lw_g (lw_at lw_m8 96 rfl) rfl
theorem q1862 : (Jvm.Cond.code ({ cls := "ScaleInspectionModel", name := "termLine", desc := "()Z" } : Jvm.MethodName) prog_21_method_18_code (2 : Nat) (Option.some Jvm.ClassFile.FieldType.boolean)) ∈ lw_all := lw_g (lw_at lw_m8 97 rfl) rfl
theorem q1863 : (Jvm.Cond.methodLink "ScaleInspectionModel" (212 : Nat) ({ cls := "ScaleInspectionModel", name := "becomes", desc := "()V" } : Jvm.MethodName)) ∈ lw_all := lw_g (lw_at lw_m8 98 rfl) rfl
theorem q1864 : (Jvm.Cond.privateMethod ({ cls := "ScaleInspectionModel", name := "becomes", desc := "()V" } : Jvm.MethodName)) ∈ lw_tbl := lw_at lw_m8 99 rfl
theorem q1865 : (Jvm.Cond.instanceMethod ({ cls := "ScaleInspectionModel", name := "becomes", desc := "()V" } : Jvm.MethodName)) ∈ lw_all := lw_g (lw_at lw_m8 100 rfl) rfl
theorem q1866 : (Jvm.Cond.code ({ cls := "ScaleInspectionModel", name := "becomes", desc := "()V" } : Jvm.MethodName) prog_21_method_22_code (2 : Nat) (Option.none : Option Jvm.ClassFile.FieldType)) ∈ lw_all := lw_g (lw_at lw_m8 101 rfl) rfl
theorem q1867 : (Jvm.Cond.methodLink "ScaleInspectionModel" (221 : Nat) ({ cls := "ScaleInspectionModel", name := "copies", desc := "([II[III)V" } : Jvm.MethodName)) ∈ lw_all := lw_g (lw_at lw_m8 102 rfl) rfl
theorem q1868 : (Jvm.Cond.static ({ cls := "ScaleInspectionModel", name := "copies", desc := "([II[III)V" } : Jvm.MethodName)) ∈ lw_all := lw_g (lw_at lw_m8 103 rfl) rfl
theorem q1869 : (Jvm.Cond.code ({ cls := "ScaleInspectionModel", name := "copies", desc := "([II[III)V" } : Jvm.MethodName) prog_21_method_21_code (6 : Nat) (Option.none : Option Jvm.ClassFile.FieldType)) ∈ lw_all := lw_g (lw_at lw_m8 104 rfl) rfl
theorem q1871 : (Jvm.Cond.instanceMethod ({ cls := "ScaleInspectionModel", name := "errorPosition", desc := "()I" } : Jvm.MethodName)) ∈ lw_all := lw_g (lw_at lw_m8 106 rfl) rfl
theorem q1872 : (Jvm.Cond.selects "ScaleInspectionModel" ({ cls := "ScaleInspectionModel", name := "errorPosition", desc := "()I" } : Jvm.MethodName) ({ cls := "ScaleInspectionModel", name := "errorPosition", desc := "()I" } : Jvm.MethodName)) ∈ lw_all := lw_g (lw_at lw_m8 107 rfl) rfl
theorem q1873 : (Jvm.Cond.code ({ cls := "ScaleInspectionModel", name := "errorPosition", desc := "()I" } : Jvm.MethodName) prog_21_method_23_code (1 : Nat) (Option.some Jvm.ClassFile.FieldType.int)) ∈ lw_all := lw_g (lw_at lw_m8 108 rfl) rfl
theorem q1875 : (Jvm.Cond.instanceMethod ({ cls := "ScaleInspectionModel", name := "traderCount", desc := "()I" } : Jvm.MethodName)) ∈ lw_all := lw_g (lw_at lw_m8 110 rfl) rfl
theorem q1876 : (Jvm.Cond.selects "ScaleInspectionModel" ({ cls := "ScaleInspectionModel", name := "traderCount", desc := "()I" } : Jvm.MethodName) ({ cls := "ScaleInspectionModel", name := "traderCount", desc := "()I" } : Jvm.MethodName)) ∈ lw_all := lw_g (lw_at lw_m8 111 rfl) rfl
theorem q1877 : (Jvm.Cond.code ({ cls := "ScaleInspectionModel", name := "traderCount", desc := "()I" } : Jvm.MethodName) prog_21_method_24_code (1 : Nat) (Option.some Jvm.ClassFile.FieldType.int)) ∈ lw_all := lw_g (lw_at lw_m8 112 rfl) rfl
theorem q1879 : (Jvm.Cond.instanceMethod ({ cls := "ScaleInspectionModel", name := "scaleCount", desc := "()I" } : Jvm.MethodName)) ∈ lw_all := lw_g (lw_at lw_m8 114 rfl) rfl
theorem q1880 : (Jvm.Cond.selects "ScaleInspectionModel" ({ cls := "ScaleInspectionModel", name := "scaleCount", desc := "()I" } : Jvm.MethodName) ({ cls := "ScaleInspectionModel", name := "scaleCount", desc := "()I" } : Jvm.MethodName)) ∈ lw_all := lw_g (lw_at lw_m8 115 rfl) rfl
theorem q1881 : (Jvm.Cond.code ({ cls := "ScaleInspectionModel", name := "scaleCount", desc := "()I" } : Jvm.MethodName) prog_21_method_25_code (1 : Nat) (Option.some Jvm.ClassFile.FieldType.int)) ∈ lw_all := lw_g (lw_at lw_m8 116 rfl) rfl
theorem q1883 : (Jvm.Cond.instanceMethod ({ cls := "ScaleInspectionModel", name := "massCount", desc := "()I" } : Jvm.MethodName)) ∈ lw_all := lw_g (lw_at lw_m8 118 rfl) rfl
theorem q1884 : (Jvm.Cond.selects "ScaleInspectionModel" ({ cls := "ScaleInspectionModel", name := "massCount", desc := "()I" } : Jvm.MethodName) ({ cls := "ScaleInspectionModel", name := "massCount", desc := "()I" } : Jvm.MethodName)) ∈ lw_all := lw_g (lw_at lw_m8 119 rfl) rfl
theorem q1885 : (Jvm.Cond.code ({ cls := "ScaleInspectionModel", name := "massCount", desc := "()I" } : Jvm.MethodName) prog_21_method_26_code (1 : Nat) (Option.some Jvm.ClassFile.FieldType.int)) ∈ lw_all := lw_g (lw_at lw_m8 120 rfl) rfl
theorem q1887 : (Jvm.Cond.instanceMethod ({ cls := "ScaleInspectionModel", name := "setCount", desc := "()I" } : Jvm.MethodName)) ∈ lw_all := lw_g (lw_at lw_m8 122 rfl) rfl
theorem q1888 : (Jvm.Cond.selects "ScaleInspectionModel" ({ cls := "ScaleInspectionModel", name := "setCount", desc := "()I" } : Jvm.MethodName) ({ cls := "ScaleInspectionModel", name := "setCount", desc := "()I" } : Jvm.MethodName)) ∈ lw_all := lw_g (lw_at lw_m8 123 rfl) rfl
theorem q1889 : (Jvm.Cond.code ({ cls := "ScaleInspectionModel", name := "setCount", desc := "()I" } : Jvm.MethodName) prog_21_method_27_code (1 : Nat) (Option.some Jvm.ClassFile.FieldType.int)) ∈ lw_all := lw_g (lw_at lw_m8 124 rfl) rfl
theorem q1891 : (Jvm.Cond.instanceMethod ({ cls := "ScaleInspectionModel", name := "trader", desc := "(I)I" } : Jvm.MethodName)) ∈ lw_all := lw_g (lw_at lw_m8 126 rfl) rfl
theorem q1892 : (Jvm.Cond.selects "ScaleInspectionModel" ({ cls := "ScaleInspectionModel", name := "trader", desc := "(I)I" } : Jvm.MethodName) ({ cls := "ScaleInspectionModel", name := "trader", desc := "(I)I" } : Jvm.MethodName)) ∈ lw_all := lw_g (lw_at lw_m8 127 rfl) rfl
theorem q1893 : (Jvm.Cond.code ({ cls := "ScaleInspectionModel", name := "trader", desc := "(I)I" } : Jvm.MethodName) prog_21_method_29_code (2 : Nat) (Option.some Jvm.ClassFile.FieldType.int)) ∈ lw_all := lw_g (lw_at lw_m8 128 rfl) rfl
theorem q1894 : (Jvm.Cond.methodLink "ScaleInspectionModel" (234 : Nat) ({ cls := "ScaleInspectionModel", name := "isScale", desc := "(I)Z" } : Jvm.MethodName)) ∈ lw_all := lw_g (lw_at lw_m8 129 rfl) rfl
theorem q1895 : (Jvm.Cond.privateMethod ({ cls := "ScaleInspectionModel", name := "isScale", desc := "(I)Z" } : Jvm.MethodName)) ∈ lw_tbl := lw_at lw_m8 130 rfl
theorem q1896 : (Jvm.Cond.instanceMethod ({ cls := "ScaleInspectionModel", name := "isScale", desc := "(I)Z" } : Jvm.MethodName)) ∈ lw_all := lw_g (lw_at lw_m8 131 rfl) rfl
theorem q1897 : (Jvm.Cond.code ({ cls := "ScaleInspectionModel", name := "isScale", desc := "(I)Z" } : Jvm.MethodName) prog_21_method_28_code (2 : Nat) (Option.some Jvm.ClassFile.FieldType.boolean)) ∈ lw_all := lw_g (lw_at lw_m8 132 rfl) rfl
theorem q1899 : (Jvm.Cond.instanceMethod ({ cls := "ScaleInspectionModel", name := "capacity", desc := "(I)I" } : Jvm.MethodName)) ∈ lw_all := lw_g (lw_at lw_m8 134 rfl) rfl
theorem q1900 : (Jvm.Cond.selects "ScaleInspectionModel" ({ cls := "ScaleInspectionModel", name := "capacity", desc := "(I)I" } : Jvm.MethodName) ({ cls := "ScaleInspectionModel", name := "capacity", desc := "(I)I" } : Jvm.MethodName)) ∈ lw_all := lw_g (lw_at lw_m8 135 rfl) rfl
theorem q1901 : (Jvm.Cond.code ({ cls := "ScaleInspectionModel", name := "capacity", desc := "(I)I" } : Jvm.MethodName) prog_21_method_30_code (2 : Nat) (Option.some Jvm.ClassFile.FieldType.int)) ∈ lw_all := lw_g (lw_at lw_m8 136 rfl) rfl
theorem q1903 : (Jvm.Cond.instanceMethod ({ cls := "ScaleInspectionModel", name := "baseTolerance", desc := "(II)I" } : Jvm.MethodName)) ∈ lw_all := lw_g (lw_at lw_m8 138 rfl) rfl
theorem q1904 : (Jvm.Cond.selects "ScaleInspectionModel" ({ cls := "ScaleInspectionModel", name := "baseTolerance", desc := "(II)I" } : Jvm.MethodName) ({ cls := "ScaleInspectionModel", name := "baseTolerance", desc := "(II)I" } : Jvm.MethodName)) ∈ lw_all := lw_g (lw_at lw_m8 139 rfl) rfl
theorem q1905 : (Jvm.Cond.code ({ cls := "ScaleInspectionModel", name := "baseTolerance", desc := "(II)I" } : Jvm.MethodName) prog_21_method_32_code (3 : Nat) (Option.some Jvm.ClassFile.FieldType.int)) ∈ lw_all := lw_g (lw_at lw_m8 140 rfl) rfl
theorem q1906 : (Jvm.Cond.methodLink "ScaleInspectionModel" (237 : Nat) ({ cls := "ScaleInspectionModel", name := "base", desc := "(II)I" } : Jvm.MethodName)) ∈ lw_all := lw_g (lw_at lw_m8 141 rfl) rfl
theorem q1907 : (Jvm.Cond.privateMethod ({ cls := "ScaleInspectionModel", name := "base", desc := "(II)I" } : Jvm.MethodName)) ∈ lw_tbl := lw_at lw_m8 142 rfl
theorem q1908 : (Jvm.Cond.instanceMethod ({ cls := "ScaleInspectionModel", name := "base", desc := "(II)I" } : Jvm.MethodName)) ∈ lw_all := lw_g (lw_at lw_m8 143 rfl) rfl
theorem q1909 : (Jvm.Cond.code ({ cls := "ScaleInspectionModel", name := "base", desc := "(II)I" } : Jvm.MethodName) prog_21_method_31_code (5 : Nat) (Option.some Jvm.ClassFile.FieldType.int)) ∈ lw_all := lw_g (lw_at lw_m8 144 rfl) rfl
theorem q1911 : (Jvm.Cond.instanceMethod ({ cls := "ScaleInspectionModel", name := "massValue", desc := "(I)I" } : Jvm.MethodName)) ∈ lw_all := lw_g (lw_at lw_m8 146 rfl) rfl
theorem q1912 : (Jvm.Cond.selects "ScaleInspectionModel" ({ cls := "ScaleInspectionModel", name := "massValue", desc := "(I)I" } : Jvm.MethodName) ({ cls := "ScaleInspectionModel", name := "massValue", desc := "(I)I" } : Jvm.MethodName)) ∈ lw_all := lw_g (lw_at lw_m8 147 rfl) rfl
theorem q1913 : (Jvm.Cond.code ({ cls := "ScaleInspectionModel", name := "massValue", desc := "(I)I" } : Jvm.MethodName) prog_21_method_33_code (2 : Nat) (Option.some Jvm.ClassFile.FieldType.int)) ∈ lw_all := lw_g (lw_at lw_m8 148 rfl) rfl
theorem q1915 : (Jvm.Cond.instanceMethod ({ cls := "ScaleInspectionModel", name := "fewestMasses", desc := "(I)I" } : Jvm.MethodName)) ∈ lw_all := lw_g (lw_at lw_m8 150 rfl) rfl
theorem q1916 : (Jvm.Cond.selects "ScaleInspectionModel" ({ cls := "ScaleInspectionModel", name := "fewestMasses", desc := "(I)I" } : Jvm.MethodName) ({ cls := "ScaleInspectionModel", name := "fewestMasses", desc := "(I)I" } : Jvm.MethodName)) ∈ lw_all := lw_g (lw_at lw_m8 151 rfl) rfl
theorem q1917 : (Jvm.Cond.code ({ cls := "ScaleInspectionModel", name := "fewestMasses", desc := "(I)I" } : Jvm.MethodName) prog_21_method_35_code (4 : Nat) (Option.some Jvm.ClassFile.FieldType.int)) ∈ lw_all := lw_g (lw_at lw_m8 152 rfl) rfl
theorem q1918 : (Jvm.Cond.methodLink "ScaleInspectionModel" (241 : Nat) ({ cls := "ScaleInspectionModel", name := "sumOf", desc := "(I)I" } : Jvm.MethodName)) ∈ lw_all := lw_g (lw_at lw_m8 153 rfl) rfl
theorem q1919 : (Jvm.Cond.privateMethod ({ cls := "ScaleInspectionModel", name := "sumOf", desc := "(I)I" } : Jvm.MethodName)) ∈ lw_tbl := lw_at lw_m8 154 rfl
theorem q1920 : (Jvm.Cond.instanceMethod ({ cls := "ScaleInspectionModel", name := "sumOf", desc := "(I)I" } : Jvm.MethodName)) ∈ lw_all := lw_g (lw_at lw_m8 155 rfl) rfl
theorem q1921 : (Jvm.Cond.code ({ cls := "ScaleInspectionModel", name := "sumOf", desc := "(I)I" } : Jvm.MethodName) prog_21_method_34_code (4 : Nat) (Option.some Jvm.ClassFile.FieldType.int)) ∈ lw_all := lw_g (lw_at lw_m8 156 rfl) rfl
theorem q1922 : (Jvm.Cond.methodLink "ScaleInspectionModel" (244 : Nat) ({ cls := "ScaleInspectionModel", name := "bits", desc := "(I)I" } : Jvm.MethodName)) ∈ lw_all := lw_g (lw_at lw_m8 157 rfl) rfl
theorem q1923 : (Jvm.Cond.static ({ cls := "ScaleInspectionModel", name := "bits", desc := "(I)I" } : Jvm.MethodName)) ∈ lw_all := lw_g (lw_at lw_m8 158 rfl) rfl
theorem q1924 : (Jvm.Cond.code ({ cls := "ScaleInspectionModel", name := "bits", desc := "(I)I" } : Jvm.MethodName) prog_21_method_3_code (3 : Nat) (Option.some Jvm.ClassFile.FieldType.int)) ∈ lw_all := lw_g (lw_at lw_m8 159 rfl) rfl
theorem q1926 : (Jvm.Cond.instanceMethod ({ cls := "ScaleInspectionModel", name := "closestLoad", desc := "(I)I" } : Jvm.MethodName)) ∈ lw_all := lw_g (lw_at lw_m8 161 rfl) rfl
theorem q1927 : (Jvm.Cond.selects "ScaleInspectionModel" ({ cls := "ScaleInspectionModel", name := "closestLoad", desc := "(I)I" } : Jvm.MethodName) ({ cls := "ScaleInspectionModel", name := "closestLoad", desc := "(I)I" } : Jvm.MethodName)) ∈ lw_all := lw_g (lw_at lw_m8 162 rfl) rfl
theorem q1928 : (Jvm.Cond.code ({ cls := "ScaleInspectionModel", name := "closestLoad", desc := "(I)I" } : Jvm.MethodName) prog_21_method_36_code (5 : Nat) (Option.some Jvm.ClassFile.FieldType.int)) ∈ lw_all := lw_g (lw_at lw_m8 163 rfl) rfl
theorem q1930 : (Jvm.Cond.instanceMethod ({ cls := "ScaleInspectionModel", name := "twoPans", desc := "(I)I" } : Jvm.MethodName)) ∈ lw_all := lw_g (lw_at lw_m8 165 rfl) rfl
theorem q1931 : (Jvm.Cond.selects "ScaleInspectionModel" ({ cls := "ScaleInspectionModel", name := "twoPans", desc := "(I)I" } : Jvm.MethodName) ({ cls := "ScaleInspectionModel", name := "twoPans", desc := "(I)I" } : Jvm.MethodName)) ∈ lw_all := lw_g (lw_at lw_m8 166 rfl) rfl
theorem q1932 : (Jvm.Cond.code ({ cls := "ScaleInspectionModel", name := "twoPans", desc := "(I)I" } : Jvm.MethodName) prog_21_method_37_code (7 : Nat) (Option.some Jvm.ClassFile.FieldType.int)) ∈ lw_all := lw_g (lw_at lw_m8 167 rfl) rfl
theorem q1934 : (Jvm.Cond.instanceMethod ({ cls := "ScaleInspectionModel", name := "startVisit", desc := "(II)I" } : Jvm.MethodName)) ∈ lw_all := lw_g (lw_at lw_m8 169 rfl) rfl
theorem q1935 : (Jvm.Cond.selects "ScaleInspectionModel" ({ cls := "ScaleInspectionModel", name := "startVisit", desc := "(II)I" } : Jvm.MethodName) ({ cls := "ScaleInspectionModel", name := "startVisit", desc := "(II)I" } : Jvm.MethodName)) ∈ lw_all := lw_g (lw_at lw_m8 170 rfl) rfl
theorem q1936 : (Jvm.Cond.code ({ cls := "ScaleInspectionModel", name := "startVisit", desc := "(II)I" } : Jvm.MethodName) prog_21_method_39_code (6 : Nat) (Option.some Jvm.ClassFile.FieldType.int)) ∈ lw_all := lw_g (lw_at lw_m8 171 rfl) rfl
theorem q1937 : (Jvm.Cond.constantLong "ScaleInspectionModel" (247 : Nat) (9999 : Int64)) ∈ lw_all := lw_g (lw_at lw_m8 172 rfl) rfl
theorem q1938 : (Jvm.Cond.methodLink "ScaleInspectionModel" (249 : Nat) ({ cls := "ScaleInspectionModel", name := "keeps", desc := "()V" } : Jvm.MethodName)) ∈ lw_all := lw_g (lw_at lw_m8 173 rfl) rfl
theorem q1939 : (Jvm.Cond.privateMethod ({ cls := "ScaleInspectionModel", name := "keeps", desc := "()V" } : Jvm.MethodName)) ∈ lw_tbl := lw_at lw_m8 174 rfl
theorem q1940 : (Jvm.Cond.instanceMethod ({ cls := "ScaleInspectionModel", name := "keeps", desc := "()V" } : Jvm.MethodName)) ∈ lw_all := lw_g (lw_at lw_m8 175 rfl) rfl
theorem q1941 : (Jvm.Cond.code ({ cls := "ScaleInspectionModel", name := "keeps", desc := "()V" } : Jvm.MethodName) prog_21_method_94_code (1 : Nat) (Option.none : Option Jvm.ClassFile.FieldType)) ∈ lw_all := lw_g (lw_at lw_m8 176 rfl) rfl
theorem q1943 : (Jvm.Cond.instanceMethod ({ cls := "ScaleInspectionModel", name := "visitCount", desc := "()I" } : Jvm.MethodName)) ∈ lw_all := lw_g (lw_at lw_m8 178 rfl) rfl
theorem q1944 : (Jvm.Cond.selects "ScaleInspectionModel" ({ cls := "ScaleInspectionModel", name := "visitCount", desc := "()I" } : Jvm.MethodName) ({ cls := "ScaleInspectionModel", name := "visitCount", desc := "()I" } : Jvm.MethodName)) ∈ lw_all := lw_g (lw_at lw_m8 179 rfl) rfl
theorem q1945 : (Jvm.Cond.code ({ cls := "ScaleInspectionModel", name := "visitCount", desc := "()I" } : Jvm.MethodName) prog_21_method_40_code (1 : Nat) (Option.some Jvm.ClassFile.FieldType.int)) ∈ lw_all := lw_g (lw_at lw_m8 180 rfl) rfl
theorem q1947 : (Jvm.Cond.instanceMethod ({ cls := "ScaleInspectionModel", name := "visitScale", desc := "(I)I" } : Jvm.MethodName)) ∈ lw_all := lw_g (lw_at lw_m8 182 rfl) rfl
theorem q1948 : (Jvm.Cond.selects "ScaleInspectionModel" ({ cls := "ScaleInspectionModel", name := "visitScale", desc := "(I)I" } : Jvm.MethodName) ({ cls := "ScaleInspectionModel", name := "visitScale", desc := "(I)I" } : Jvm.MethodName)) ∈ lw_all := lw_g (lw_at lw_m8 183 rfl) rfl
theorem q1949 : (Jvm.Cond.code ({ cls := "ScaleInspectionModel", name := "visitScale", desc := "(I)I" } : Jvm.MethodName) prog_21_method_41_code (2 : Nat) (Option.some Jvm.ClassFile.FieldType.int)) ∈ lw_all := lw_g (lw_at lw_m8 184 rfl) rfl
theorem q1950 : (Jvm.Cond.methodLink "ScaleInspectionModel" (252 : Nat) ({ cls := "ScaleInspectionModel", name := "isVisit", desc := "(I)Z" } : Jvm.MethodName)) ∈ lw_all := lw_g (lw_at lw_m8 185 rfl) rfl
theorem q1951 : (Jvm.Cond.privateMethod ({ cls := "ScaleInspectionModel", name := "isVisit", desc := "(I)Z" } : Jvm.MethodName)) ∈ lw_tbl := lw_at lw_m8 186 rfl
theorem q1952 : (Jvm.Cond.instanceMethod ({ cls := "ScaleInspectionModel", name := "isVisit", desc := "(I)Z" } : Jvm.MethodName)) ∈ lw_all := lw_g (lw_at lw_m8 187 rfl) rfl
theorem q1953 : (Jvm.Cond.code ({ cls := "ScaleInspectionModel", name := "isVisit", desc := "(I)Z" } : Jvm.MethodName) prog_21_method_38_code (2 : Nat) (Option.some Jvm.ClassFile.FieldType.boolean)) ∈ lw_all := lw_g (lw_at lw_m8 188 rfl) rfl
theorem q1955 : (Jvm.Cond.instanceMethod ({ cls := "ScaleInspectionModel", name := "isInService", desc := "(I)I" } : Jvm.MethodName)) ∈ lw_all := lw_g (lw_at lw_m8 190 rfl) rfl
theorem q1956 : (Jvm.Cond.selects "ScaleInspectionModel" ({ cls := "ScaleInspectionModel", name := "isInService", desc := "(I)I" } : Jvm.MethodName) ({ cls := "ScaleInspectionModel", name := "isInService", desc := "(I)I" } : Jvm.MethodName)) ∈ lw_all := lw_g (lw_at lw_m8 191 rfl) rfl
theorem q1957 : (Jvm.Cond.code ({ cls := "ScaleInspectionModel", name := "isInService", desc := "(I)I" } : Jvm.MethodName) prog_21_method_42_code (2 : Nat) (Option.some Jvm.ClassFile.FieldType.int)) ∈ lw_all := lw_g (lw_at lw_m8 192 rfl) rfl
theorem q1959 : (Jvm.Cond.instanceMethod ({ cls := "ScaleInspectionModel", name := "record", desc := "(III)I" } : Jvm.MethodName)) ∈ lw_all := lw_g (lw_at lw_m8 194 rfl) rfl
theorem q1960 : (Jvm.Cond.selects "ScaleInspectionModel" ({ cls := "ScaleInspectionModel", name := "record", desc := "(III)I" } : Jvm.MethodName) ({ cls := "ScaleInspectionModel", name := "record", desc := "(III)I" } : Jvm.MethodName)) ∈ lw_all := lw_g (lw_at lw_m8 195 rfl) rfl
theorem q1961 : (Jvm.Cond.code ({ cls := "ScaleInspectionModel", name := "record", desc := "(III)I" } : Jvm.MethodName) prog_21_method_43_code (5 : Nat) (Option.some Jvm.ClassFile.FieldType.int)) ∈ lw_all := lw_g (lw_at lw_m8 196 rfl) rfl
theorem q1962 : (Jvm.Cond.constantLong "ScaleInspectionModel" (255 : Nat) (-1999999 : Int64)) ∈ lw_all := lw_g (lw_at lw_m8 197 rfl) rfl
theorem q1963 : (Jvm.Cond.constantLong "ScaleInspectionModel" (257 : Nat) (1999999 : Int64)) ∈ lw_all := lw_g (lw_at lw_m8 198 rfl) rfl
theorem q1965 : (Jvm.Cond.instanceMethod ({ cls := "ScaleInspectionModel", name := "testCount", desc := "(I)I" } : Jvm.MethodName)) ∈ lw_all := lw_g (lw_at lw_m8 200 rfl) rfl
theorem q1966 : (Jvm.Cond.selects "ScaleInspectionModel" ({ cls := "ScaleInspectionModel", name := "testCount", desc := "(I)I" } : Jvm.MethodName) ({ cls := "ScaleInspectionModel", name := "testCount", desc := "(I)I" } : Jvm.MethodName)) ∈ lw_all := lw_g (lw_at lw_m8 201 rfl) rfl
theorem q1967 : (Jvm.Cond.code ({ cls := "ScaleInspectionModel", name := "testCount", desc := "(I)I" } : Jvm.MethodName) prog_21_method_44_code (2 : Nat) (Option.some Jvm.ClassFile.FieldType.int)) ∈ lw_all := lw_g (lw_at lw_m8 202 rfl) rfl
theorem q1969 : (Jvm.Cond.instanceMethod ({ cls := "ScaleInspectionModel", name := "testLoad", desc := "(II)I" } : Jvm.MethodName)) ∈ lw_all := lw_g (lw_at lw_m8 204 rfl) rfl
theorem q1970 : (Jvm.Cond.selects "ScaleInspectionModel" ({ cls := "ScaleInspectionModel", name := "testLoad", desc := "(II)I" } : Jvm.MethodName) ({ cls := "ScaleInspectionModel", name := "testLoad", desc := "(II)I" } : Jvm.MethodName)) ∈ lw_all := lw_g (lw_at lw_m8 205 rfl) rfl
theorem q1971 : (Jvm.Cond.code ({ cls := "ScaleInspectionModel", name := "testLoad", desc := "(II)I" } : Jvm.MethodName) prog_21_method_49_code (3 : Nat) (Option.some Jvm.ClassFile.FieldType.int)) ∈ lw_all := lw_g (lw_at lw_m8 206 rfl) rfl
theorem q1972 : (Jvm.Cond.methodLink "ScaleInspectionModel" (262 : Nat) ({ cls := "ScaleInspectionModel", name := "isTest", desc := "(II)Z" } : Jvm.MethodName)) ∈ lw_all := lw_g (lw_at lw_m8 207 rfl) rfl
theorem q1973 : (Jvm.Cond.privateMethod ({ cls := "ScaleInspectionModel", name := "isTest", desc := "(II)Z" } : Jvm.MethodName)) ∈ lw_tbl := lw_at lw_m8 208 rfl
theorem q1974 : (Jvm.Cond.instanceMethod ({ cls := "ScaleInspectionModel", name := "isTest", desc := "(II)Z" } : Jvm.MethodName)) ∈ lw_all := lw_g (lw_at lw_m8 209 rfl) rfl
theorem q1975 : (Jvm.Cond.code ({ cls := "ScaleInspectionModel", name := "isTest", desc := "(II)Z" } : Jvm.MethodName) prog_21_method_45_code (3 : Nat) (Option.some Jvm.ClassFile.FieldType.boolean)) ∈ lw_all := lw_g (lw_at lw_m8 210 rfl) rfl
theorem q1976 : (Jvm.Cond.methodLink "ScaleInspectionModel" (259 : Nat) ({ cls := "ScaleInspectionModel", name := "loadOf", desc := "(II)I" } : Jvm.MethodName)) ∈ lw_all := lw_g (lw_at lw_m8 211 rfl) rfl
theorem q1977 : (Jvm.Cond.privateMethod ({ cls := "ScaleInspectionModel", name := "loadOf", desc := "(II)I" } : Jvm.MethodName)) ∈ lw_tbl := lw_at lw_m8 212 rfl
theorem q1978 : (Jvm.Cond.instanceMethod ({ cls := "ScaleInspectionModel", name := "loadOf", desc := "(II)I" } : Jvm.MethodName)) ∈ lw_all := lw_g (lw_at lw_m8 213 rfl) rfl
theorem q1979 : (Jvm.Cond.code ({ cls := "ScaleInspectionModel", name := "loadOf", desc := "(II)I" } : Jvm.MethodName) prog_21_method_46_code (3 : Nat) (Option.some Jvm.ClassFile.FieldType.int)) ∈ lw_all := lw_g (lw_at lw_m8 214 rfl) rfl
theorem q1981 : (Jvm.Cond.instanceMethod ({ cls := "ScaleInspectionModel", name := "testError", desc := "(II)I" } : Jvm.MethodName)) ∈ lw_all := lw_g (lw_at lw_m8 216 rfl) rfl
theorem q1982 : (Jvm.Cond.selects "ScaleInspectionModel" ({ cls := "ScaleInspectionModel", name := "testError", desc := "(II)I" } : Jvm.MethodName) ({ cls := "ScaleInspectionModel", name := "testError", desc := "(II)I" } : Jvm.MethodName)) ∈ lw_all := lw_g (lw_at lw_m8 217 rfl) rfl
theorem q1983 : (Jvm.Cond.code ({ cls := "ScaleInspectionModel", name := "testError", desc := "(II)I" } : Jvm.MethodName) prog_21_method_50_code (3 : Nat) (Option.some Jvm.ClassFile.FieldType.int)) ∈ lw_all := lw_g (lw_at lw_m8 218 rfl) rfl
theorem q1984 : (Jvm.Cond.methodLink "ScaleInspectionModel" (265 : Nat) ({ cls := "ScaleInspectionModel", name := "errorOf", desc := "(II)I" } : Jvm.MethodName)) ∈ lw_all := lw_g (lw_at lw_m8 219 rfl) rfl
theorem q1985 : (Jvm.Cond.privateMethod ({ cls := "ScaleInspectionModel", name := "errorOf", desc := "(II)I" } : Jvm.MethodName)) ∈ lw_tbl := lw_at lw_m8 220 rfl
theorem q1986 : (Jvm.Cond.instanceMethod ({ cls := "ScaleInspectionModel", name := "errorOf", desc := "(II)I" } : Jvm.MethodName)) ∈ lw_all := lw_g (lw_at lw_m8 221 rfl) rfl
theorem q1987 : (Jvm.Cond.code ({ cls := "ScaleInspectionModel", name := "errorOf", desc := "(II)I" } : Jvm.MethodName) prog_21_method_47_code (3 : Nat) (Option.some Jvm.ClassFile.FieldType.int)) ∈ lw_all := lw_g (lw_at lw_m8 222 rfl) rfl
theorem q1989 : (Jvm.Cond.instanceMethod ({ cls := "ScaleInspectionModel", name := "testPasses", desc := "(II)Z" } : Jvm.MethodName)) ∈ lw_all := lw_g (lw_at lw_m8 224 rfl) rfl
theorem q1990 : (Jvm.Cond.selects "ScaleInspectionModel" ({ cls := "ScaleInspectionModel", name := "testPasses", desc := "(II)Z" } : Jvm.MethodName) ({ cls := "ScaleInspectionModel", name := "testPasses", desc := "(II)Z" } : Jvm.MethodName)) ∈ lw_all := lw_g (lw_at lw_m8 225 rfl) rfl
theorem q1991 : (Jvm.Cond.code ({ cls := "ScaleInspectionModel", name := "testPasses", desc := "(II)Z" } : Jvm.MethodName) prog_21_method_51_code (3 : Nat) (Option.some Jvm.ClassFile.FieldType.boolean)) ∈ lw_all := lw_g (lw_at lw_m8 226 rfl) rfl
theorem q1992 : (Jvm.Cond.methodLink "ScaleInspectionModel" (268 : Nat) ({ cls := "ScaleInspectionModel", name := "size", desc := "(I)I" } : Jvm.MethodName)) ∈ lw_all := lw_g (lw_at lw_m8 227 rfl) rfl
theorem q1993 : (Jvm.Cond.static ({ cls := "ScaleInspectionModel", name := "size", desc := "(I)I" } : Jvm.MethodName)) ∈ lw_all := lw_g (lw_at lw_m8 228 rfl) rfl
theorem q1994 : (Jvm.Cond.code ({ cls := "ScaleInspectionModel", name := "size", desc := "(I)I" } : Jvm.MethodName) prog_21_method_4_code (1 : Nat) (Option.some Jvm.ClassFile.FieldType.int)) ∈ lw_all := lw_g (lw_at lw_m8 229 rfl) rfl
theorem q1995 : (Jvm.Cond.methodLink "ScaleInspectionModel" (271 : Nat) ({ cls := "ScaleInspectionModel", name := "toleranceOf", desc := "(II)I" } : Jvm.MethodName)) ∈ lw_all := lw_g (lw_at lw_m8 230 rfl) rfl
theorem q1996 : (Jvm.Cond.privateMethod ({ cls := "ScaleInspectionModel", name := "toleranceOf", desc := "(II)I" } : Jvm.MethodName)) ∈ lw_tbl := lw_at lw_m8 231 rfl
theorem q1997 : (Jvm.Cond.instanceMethod ({ cls := "ScaleInspectionModel", name := "toleranceOf", desc := "(II)I" } : Jvm.MethodName)) ∈ lw_all := lw_g (lw_at lw_m8 232 rfl) rfl
theorem q1998 : (Jvm.Cond.code ({ cls := "ScaleInspectionModel", name := "toleranceOf", desc := "(II)I" } : Jvm.MethodName) prog_21_method_48_code (3 : Nat) (Option.some Jvm.ClassFile.FieldType.int)) ∈ lw_all := lw_g (lw_at lw_m8 233 rfl) rfl
theorem q2000 : (Jvm.Cond.instanceMethod ({ cls := "ScaleInspectionModel", name := "verdict", desc := "(I)I" } : Jvm.MethodName)) ∈ lw_all := lw_g (lw_at lw_m8 235 rfl) rfl
theorem q2001 : (Jvm.Cond.selects "ScaleInspectionModel" ({ cls := "ScaleInspectionModel", name := "verdict", desc := "(I)I" } : Jvm.MethodName) ({ cls := "ScaleInspectionModel", name := "verdict", desc := "(I)I" } : Jvm.MethodName)) ∈ lw_all := lw_g (lw_at lw_m8 236 rfl) rfl
theorem q2002 : (Jvm.Cond.code ({ cls := "ScaleInspectionModel", name := "verdict", desc := "(I)I" } : Jvm.MethodName) prog_21_method_53_code (2 : Nat) (Option.some Jvm.ClassFile.FieldType.int)) ∈ lw_all := lw_g (lw_at lw_m8 237 rfl) rfl
theorem q2003 : (Jvm.Cond.methodLink "ScaleInspectionModel" (274 : Nat) ({ cls := "ScaleInspectionModel", name := "verdictOf", desc := "(II)I" } : Jvm.MethodName)) ∈ lw_all := lw_g (lw_at lw_m8 238 rfl) rfl
theorem q2004 : (Jvm.Cond.privateMethod ({ cls := "ScaleInspectionModel", name := "verdictOf", desc := "(II)I" } : Jvm.MethodName)) ∈ lw_tbl := lw_at lw_m8 239 rfl
theorem q2005 : (Jvm.Cond.instanceMethod ({ cls := "ScaleInspectionModel", name := "verdictOf", desc := "(II)I" } : Jvm.MethodName)) ∈ lw_all := lw_g (lw_at lw_m9 0 rfl) rfl
theorem q2006 : (Jvm.Cond.code ({ cls := "ScaleInspectionModel", name := "verdictOf", desc := "(II)I" } : Jvm.MethodName) prog_21_method_52_code (11 : Nat) (Option.some Jvm.ClassFile.FieldType.int)) ∈ lw_all := lw_g (lw_at lw_m9 1 rfl) rfl
theorem q2008 : (Jvm.Cond.instanceMethod ({ cls := "ScaleInspectionModel", name := "adjustment", desc := "(I)I" } : Jvm.MethodName)) ∈ lw_all := lw_g (lw_at lw_m9 3 rfl) rfl
theorem q2009 : (Jvm.Cond.selects "ScaleInspectionModel" ({ cls := "ScaleInspectionModel", name := "adjustment", desc := "(I)I" } : Jvm.MethodName) ({ cls := "ScaleInspectionModel", name := "adjustment", desc := "(I)I" } : Jvm.MethodName)) ∈ lw_all := lw_g (lw_at lw_m9 4 rfl) rfl
theorem q2010 : (Jvm.Cond.code ({ cls := "ScaleInspectionModel", name := "adjustment", desc := "(I)I" } : Jvm.MethodName) prog_21_method_55_code (2 : Nat) (Option.some Jvm.ClassFile.FieldType.int)) ∈ lw_all := lw_g (lw_at lw_m9 5 rfl) rfl
theorem q2011 : (Jvm.Cond.methodLink "ScaleInspectionModel" (277 : Nat) ({ cls := "ScaleInspectionModel", name := "adjustmentOf", desc := "(I)I" } : Jvm.MethodName)) ∈ lw_all := lw_g (lw_at lw_m9 6 rfl) rfl
theorem q2012 : (Jvm.Cond.privateMethod ({ cls := "ScaleInspectionModel", name := "adjustmentOf", desc := "(I)I" } : Jvm.MethodName)) ∈ lw_tbl := lw_at lw_m9 7 rfl
theorem q2013 : (Jvm.Cond.instanceMethod ({ cls := "ScaleInspectionModel", name := "adjustmentOf", desc := "(I)I" } : Jvm.MethodName)) ∈ lw_all := lw_g (lw_at lw_m9 8 rfl) rfl
theorem q2014 : (Jvm.Cond.code ({ cls := "ScaleInspectionModel", name := "adjustmentOf", desc := "(I)I" } : Jvm.MethodName) prog_21_method_54_code (6 : Nat) (Option.some Jvm.ClassFile.FieldType.int)) ∈ lw_all := lw_g (lw_at lw_m9 9 rfl) rfl
theorem q2016 : (Jvm.Cond.instanceMethod ({ cls := "ScaleInspectionModel", name := "adjustedVerdict", desc := "(I)I" } : Jvm.MethodName)) ∈ lw_all := lw_g (lw_at lw_m9 11 rfl) rfl
theorem q2017 : (Jvm.Cond.selects "ScaleInspectionModel" ({ cls := "ScaleInspectionModel", name := "adjustedVerdict", desc := "(I)I" } : Jvm.MethodName) ({ cls := "ScaleInspectionModel", name := "adjustedVerdict", desc := "(I)I" } : Jvm.MethodName)) ∈ lw_all := lw_g (lw_at lw_m9 12 rfl) rfl
theorem q2018 : (Jvm.Cond.code ({ cls := "ScaleInspectionModel", name := "adjustedVerdict", desc := "(I)I" } : Jvm.MethodName) prog_21_method_56_code (2 : Nat) (Option.some Jvm.ClassFile.FieldType.int)) ∈ lw_all := lw_g (lw_at lw_m9 13 rfl) rfl
theorem q2020 : (Jvm.Cond.instanceMethod ({ cls := "ScaleInspectionModel", name := "closeVisit", desc := "(I)I" } : Jvm.MethodName)) ∈ lw_all := lw_g (lw_at lw_m9 15 rfl) rfl
theorem q2021 : (Jvm.Cond.selects "ScaleInspectionModel" ({ cls := "ScaleInspectionModel", name := "closeVisit", desc := "(I)I" } : Jvm.MethodName) ({ cls := "ScaleInspectionModel", name := "closeVisit", desc := "(I)I" } : Jvm.MethodName)) ∈ lw_all := lw_g (lw_at lw_m9 16 rfl) rfl
theorem q2022 : (Jvm.Cond.code ({ cls := "ScaleInspectionModel", name := "closeVisit", desc := "(I)I" } : Jvm.MethodName) prog_21_method_57_code (2 : Nat) (Option.some Jvm.ClassFile.FieldType.int)) ∈ lw_all := lw_g (lw_at lw_m9 17 rfl) rfl
theorem q2024 : (Jvm.Cond.instanceMethod ({ cls := "ScaleInspectionModel", name := "isClosed", desc := "(I)I" } : Jvm.MethodName)) ∈ lw_all := lw_g (lw_at lw_m9 19 rfl) rfl
theorem q2025 : (Jvm.Cond.selects "ScaleInspectionModel" ({ cls := "ScaleInspectionModel", name := "isClosed", desc := "(I)I" } : Jvm.MethodName) ({ cls := "ScaleInspectionModel", name := "isClosed", desc := "(I)I" } : Jvm.MethodName)) ∈ lw_all := lw_g (lw_at lw_m9 20 rfl) rfl
theorem q2026 : (Jvm.Cond.code ({ cls := "ScaleInspectionModel", name := "isClosed", desc := "(I)I" } : Jvm.MethodName) prog_21_method_58_code (2 : Nat) (Option.some Jvm.ClassFile.FieldType.int)) ∈ lw_all := lw_g (lw_at lw_m9 21 rfl) rfl
theorem q2028 : (Jvm.Cond.instanceMethod ({ cls := "ScaleInspectionModel", name := "sealState", desc := "(II)I" } : Jvm.MethodName)) ∈ lw_all := lw_g (lw_at lw_m9 23 rfl) rfl
theorem q2029 : (Jvm.Cond.selects "ScaleInspectionModel" ({ cls := "ScaleInspectionModel", name := "sealState", desc := "(II)I" } : Jvm.MethodName) ({ cls := "ScaleInspectionModel", name := "sealState", desc := "(II)I" } : Jvm.MethodName)) ∈ lw_all := lw_g (lw_at lw_m9 24 rfl) rfl
theorem q2030 : (Jvm.Cond.code ({ cls := "ScaleInspectionModel", name := "sealState", desc := "(II)I" } : Jvm.MethodName) prog_21_method_63_code (3 : Nat) (Option.some Jvm.ClassFile.FieldType.int)) ∈ lw_all := lw_g (lw_at lw_m9 25 rfl) rfl
theorem q2031 : (Jvm.Cond.methodLink "ScaleInspectionModel" (286 : Nat) ({ cls := "ScaleInspectionModel", name := "isDay", desc := "(I)Z" } : Jvm.MethodName)) ∈ lw_all := lw_g (lw_at lw_m9 26 rfl) rfl
theorem q2032 : (Jvm.Cond.static ({ cls := "ScaleInspectionModel", name := "isDay", desc := "(I)Z" } : Jvm.MethodName)) ∈ lw_all := lw_g (lw_at lw_m9 27 rfl) rfl
theorem q2033 : (Jvm.Cond.code ({ cls := "ScaleInspectionModel", name := "isDay", desc := "(I)Z" } : Jvm.MethodName) prog_21_method_62_code (1 : Nat) (Option.some Jvm.ClassFile.FieldType.boolean)) ∈ lw_all := lw_g (lw_at lw_m9 28 rfl) rfl
theorem q2034 : (Jvm.Cond.methodLink "ScaleInspectionModel" (289 : Nat) ({ cls := "ScaleInspectionModel", name := "stateOf", desc := "(II)I" } : Jvm.MethodName)) ∈ lw_all := lw_g (lw_at lw_m9 29 rfl) rfl
theorem q2035 : (Jvm.Cond.privateMethod ({ cls := "ScaleInspectionModel", name := "stateOf", desc := "(II)I" } : Jvm.MethodName)) ∈ lw_tbl := lw_at lw_m9 30 rfl
theorem q2036 : (Jvm.Cond.instanceMethod ({ cls := "ScaleInspectionModel", name := "stateOf", desc := "(II)I" } : Jvm.MethodName)) ∈ lw_all := lw_g (lw_at lw_m9 31 rfl) rfl
theorem q2037 : (Jvm.Cond.code ({ cls := "ScaleInspectionModel", name := "stateOf", desc := "(II)I" } : Jvm.MethodName) prog_21_method_61_code (4 : Nat) (Option.some Jvm.ClassFile.FieldType.int)) ∈ lw_all := lw_g (lw_at lw_m9 32 rfl) rfl
theorem q2038 : (Jvm.Cond.methodLink "ScaleInspectionModel" (280 : Nat) ({ cls := "ScaleInspectionModel", name := "last", desc := "(II)I" } : Jvm.MethodName)) ∈ lw_all := lw_g (lw_at lw_m9 33 rfl) rfl
theorem q2039 : (Jvm.Cond.privateMethod ({ cls := "ScaleInspectionModel", name := "last", desc := "(II)I" } : Jvm.MethodName)) ∈ lw_tbl := lw_at lw_m9 34 rfl
theorem q2040 : (Jvm.Cond.instanceMethod ({ cls := "ScaleInspectionModel", name := "last", desc := "(II)I" } : Jvm.MethodName)) ∈ lw_all := lw_g (lw_at lw_m9 35 rfl) rfl
theorem q2041 : (Jvm.Cond.code ({ cls := "ScaleInspectionModel", name := "last", desc := "(II)I" } : Jvm.MethodName) prog_21_method_59_code (5 : Nat) (Option.some Jvm.ClassFile.FieldType.int)) ∈ lw_all := lw_g (lw_at lw_m9 36 rfl) rfl
theorem q2042 : (Jvm.Cond.methodLink "ScaleInspectionModel" (283 : Nat) ({ cls := "ScaleInspectionModel", name := "expires", desc := "(I)I" } : Jvm.MethodName)) ∈ lw_all := lw_g (lw_at lw_m9 37 rfl) rfl
theorem q2043 : (Jvm.Cond.privateMethod ({ cls := "ScaleInspectionModel", name := "expires", desc := "(I)I" } : Jvm.MethodName)) ∈ lw_tbl := lw_at lw_m9 38 rfl
theorem q2044 : (Jvm.Cond.instanceMethod ({ cls := "ScaleInspectionModel", name := "expires", desc := "(I)I" } : Jvm.MethodName)) ∈ lw_all := lw_g (lw_at lw_m9 39 rfl) rfl
theorem q2045 : (Jvm.Cond.code ({ cls := "ScaleInspectionModel", name := "expires", desc := "(I)I" } : Jvm.MethodName) prog_21_method_60_code (2 : Nat) (Option.some Jvm.ClassFile.FieldType.int)) ∈ lw_all := lw_g (lw_at lw_m9 40 rfl) rfl
theorem q2047 : (Jvm.Cond.instanceMethod ({ cls := "ScaleInspectionModel", name := "expiryDay", desc := "(II)I" } : Jvm.MethodName)) ∈ lw_all := lw_g (lw_at lw_m9 42 rfl) rfl
theorem q2048 : (Jvm.Cond.selects "ScaleInspectionModel" ({ cls := "ScaleInspectionModel", name := "expiryDay", desc := "(II)I" } : Jvm.MethodName) ({ cls := "ScaleInspectionModel", name := "expiryDay", desc := "(II)I" } : Jvm.MethodName)) ∈ lw_all := lw_g (lw_at lw_m9 43 rfl) rfl
theorem q2049 : (Jvm.Cond.code ({ cls := "ScaleInspectionModel", name := "expiryDay", desc := "(II)I" } : Jvm.MethodName) prog_21_method_64_code (3 : Nat) (Option.some Jvm.ClassFile.FieldType.int)) ∈ lw_all := lw_g (lw_at lw_m9 44 rfl) rfl
theorem q2051 : (Jvm.Cond.instanceMethod ({ cls := "ScaleInspectionModel", name := "scalesWith", desc := "(II)I" } : Jvm.MethodName)) ∈ lw_all := lw_g (lw_at lw_m9 46 rfl) rfl
theorem q2052 : (Jvm.Cond.selects "ScaleInspectionModel" ({ cls := "ScaleInspectionModel", name := "scalesWith", desc := "(II)I" } : Jvm.MethodName) ({ cls := "ScaleInspectionModel", name := "scalesWith", desc := "(II)I" } : Jvm.MethodName)) ∈ lw_all := lw_g (lw_at lw_m9 47 rfl) rfl
theorem q2053 : (Jvm.Cond.code ({ cls := "ScaleInspectionModel", name := "scalesWith", desc := "(II)I" } : Jvm.MethodName) prog_21_method_65_code (5 : Nat) (Option.some Jvm.ClassFile.FieldType.int)) ∈ lw_all := lw_g (lw_at lw_m9 48 rfl) rfl
theorem q2054 : (Jvm.Cond.constantLong "ScaleInspectionModel" (292 : Nat) (3 : Int64)) ∈ lw_all := lw_g (lw_at lw_m9 49 rfl) rfl
theorem q2056 : (Jvm.Cond.instanceMethod ({ cls := "ScaleInspectionModel", name := "risk", desc := "(II)I" } : Jvm.MethodName)) ∈ lw_all := lw_g (lw_at lw_m9 51 rfl) rfl
theorem q2057 : (Jvm.Cond.selects "ScaleInspectionModel" ({ cls := "ScaleInspectionModel", name := "risk", desc := "(II)I" } : Jvm.MethodName) ({ cls := "ScaleInspectionModel", name := "risk", desc := "(II)I" } : Jvm.MethodName)) ∈ lw_all := lw_g (lw_at lw_m9 52 rfl) rfl
theorem q2058 : (Jvm.Cond.code ({ cls := "ScaleInspectionModel", name := "risk", desc := "(II)I" } : Jvm.MethodName) prog_21_method_67_code (3 : Nat) (Option.some Jvm.ClassFile.FieldType.int)) ∈ lw_all := lw_g (lw_at lw_m9 53 rfl) rfl
theorem q2059 : (Jvm.Cond.methodLink "ScaleInspectionModel" (294 : Nat) ({ cls := "ScaleInspectionModel", name := "riskOf", desc := "(II)I" } : Jvm.MethodName)) ∈ lw_all := lw_g (lw_at lw_m9 54 rfl) rfl
theorem q2060 : (Jvm.Cond.privateMethod ({ cls := "ScaleInspectionModel", name := "riskOf", desc := "(II)I" } : Jvm.MethodName)) ∈ lw_tbl := lw_at lw_m9 55 rfl
theorem q2061 : (Jvm.Cond.instanceMethod ({ cls := "ScaleInspectionModel", name := "riskOf", desc := "(II)I" } : Jvm.MethodName)) ∈ lw_all := lw_g (lw_at lw_m9 56 rfl) rfl
theorem q2062 : (Jvm.Cond.code ({ cls := "ScaleInspectionModel", name := "riskOf", desc := "(II)I" } : Jvm.MethodName) prog_21_method_66_code (6 : Nat) (Option.some Jvm.ClassFile.FieldType.int)) ∈ lw_all := lw_g (lw_at lw_m9 57 rfl) rfl
theorem q2064 : (Jvm.Cond.instanceMethod ({ cls := "ScaleInspectionModel", name := "riskiestTrader", desc := "(I)I" } : Jvm.MethodName)) ∈ lw_all := lw_g (lw_at lw_m9 59 rfl) rfl
theorem q2065 : (Jvm.Cond.selects "ScaleInspectionModel" ({ cls := "ScaleInspectionModel", name := "riskiestTrader", desc := "(I)I" } : Jvm.MethodName) ({ cls := "ScaleInspectionModel", name := "riskiestTrader", desc := "(I)I" } : Jvm.MethodName)) ∈ lw_all := lw_g (lw_at lw_m9 60 rfl) rfl
theorem q2066 : (Jvm.Cond.code ({ cls := "ScaleInspectionModel", name := "riskiestTrader", desc := "(I)I" } : Jvm.MethodName) prog_21_method_68_code (7 : Nat) (Option.some Jvm.ClassFile.FieldType.int)) ∈ lw_all := lw_g (lw_at lw_m9 61 rfl) rfl
theorem q2068 : (Jvm.Cond.instanceMethod ({ cls := "ScaleInspectionModel", name := "lot", desc := "(III)I" } : Jvm.MethodName)) ∈ lw_all := lw_g (lw_at lw_m9 63 rfl) rfl
theorem q2069 : (Jvm.Cond.selects "ScaleInspectionModel" ({ cls := "ScaleInspectionModel", name := "lot", desc := "(III)I" } : Jvm.MethodName) ({ cls := "ScaleInspectionModel", name := "lot", desc := "(III)I" } : Jvm.MethodName)) ∈ lw_all := lw_g (lw_at lw_m9 64 rfl) rfl
theorem q2070 : (Jvm.Cond.code ({ cls := "ScaleInspectionModel", name := "lot", desc := "(III)I" } : Jvm.MethodName) prog_21_method_69_code (10 : Nat) (Option.some Jvm.ClassFile.FieldType.int)) ∈ lw_all := lw_g (lw_at lw_m9 65 rfl) rfl
theorem q2071 : (Jvm.Cond.constantLong "ScaleInspectionModel" (297 : Nat) (999999 : Int64)) ∈ lw_all := lw_g (lw_at lw_m9 66 rfl) rfl
theorem q2072 : (Jvm.Cond.constantLong "ScaleInspectionModel" (299 : Nat) (1103515245 : Int64)) ∈ lw_all := lw_g (lw_at lw_m9 67 rfl) rfl
theorem q2073 : (Jvm.Cond.constantLong "ScaleInspectionModel" (301 : Nat) (12345 : Int64)) ∈ lw_all := lw_g (lw_at lw_m9 68 rfl) rfl
theorem q2074 : (Jvm.Cond.constantLong "ScaleInspectionModel" (303 : Nat) (2147483648 : Int64)) ∈ lw_all := lw_g (lw_at lw_m9 69 rfl) rfl
theorem q2075 : (Jvm.Cond.constantLong "ScaleInspectionModel" (305 : Nat) (65536 : Int64)) ∈ lw_all := lw_g (lw_at lw_m9 70 rfl) rfl
theorem q2077 : (Jvm.Cond.instanceMethod ({ cls := "ScaleInspectionModel", name := "weightCount", desc := "(I)I" } : Jvm.MethodName)) ∈ lw_all := lw_g (lw_at lw_m9 72 rfl) rfl
theorem q2078 : (Jvm.Cond.selects "ScaleInspectionModel" ({ cls := "ScaleInspectionModel", name := "weightCount", desc := "(I)I" } : Jvm.MethodName) ({ cls := "ScaleInspectionModel", name := "weightCount", desc := "(I)I" } : Jvm.MethodName)) ∈ lw_all := lw_g (lw_at lw_m9 73 rfl) rfl
theorem q2079 : (Jvm.Cond.code ({ cls := "ScaleInspectionModel", name := "weightCount", desc := "(I)I" } : Jvm.MethodName) prog_21_method_79_code (2 : Nat) (Option.some Jvm.ClassFile.FieldType.int)) ∈ lw_all := lw_g (lw_at lw_m9 74 rfl) rfl
theorem q2080 : (Jvm.Cond.methodLink "ScaleInspectionModel" (323 : Nat) ({ cls := "ScaleInspectionModel", name := "isSet", desc := "(I)Z" } : Jvm.MethodName)) ∈ lw_all := lw_g (lw_at lw_m9 75 rfl) rfl
theorem q2081 : (Jvm.Cond.privateMethod ({ cls := "ScaleInspectionModel", name := "isSet", desc := "(I)Z" } : Jvm.MethodName)) ∈ lw_tbl := lw_at lw_m9 76 rfl
theorem q2082 : (Jvm.Cond.instanceMethod ({ cls := "ScaleInspectionModel", name := "isSet", desc := "(I)Z" } : Jvm.MethodName)) ∈ lw_all := lw_g (lw_at lw_m9 77 rfl) rfl
theorem q2083 : (Jvm.Cond.code ({ cls := "ScaleInspectionModel", name := "isSet", desc := "(I)Z" } : Jvm.MethodName) prog_21_method_77_code (2 : Nat) (Option.some Jvm.ClassFile.FieldType.boolean)) ∈ lw_all := lw_g (lw_at lw_m9 78 rfl) rfl
theorem q2085 : (Jvm.Cond.instanceMethod ({ cls := "ScaleInspectionModel", name := "weigh", desc := "(IIII)I" } : Jvm.MethodName)) ∈ lw_all := lw_g (lw_at lw_m9 80 rfl) rfl
theorem q2086 : (Jvm.Cond.selects "ScaleInspectionModel" ({ cls := "ScaleInspectionModel", name := "weigh", desc := "(IIII)I" } : Jvm.MethodName) ({ cls := "ScaleInspectionModel", name := "weigh", desc := "(IIII)I" } : Jvm.MethodName)) ∈ lw_all := lw_g (lw_at lw_m9 81 rfl) rfl
theorem q2087 : (Jvm.Cond.code ({ cls := "ScaleInspectionModel", name := "weigh", desc := "(IIII)I" } : Jvm.MethodName) prog_21_method_80_code (10 : Nat) (Option.some Jvm.ClassFile.FieldType.int)) ∈ lw_all := lw_g (lw_at lw_m9 82 rfl) rfl
theorem q2088 : (Jvm.Cond.constantLong "ScaleInspectionModel" (326 : Nat) (2 : Int64)) ∈ lw_all := lw_g (lw_at lw_m9 83 rfl) rfl
theorem q2090 : (Jvm.Cond.instanceMethod ({ cls := "ScaleInspectionModel", name := "weighingCount", desc := "(I)I" } : Jvm.MethodName)) ∈ lw_all := lw_g (lw_at lw_m9 85 rfl) rfl
theorem q2091 : (Jvm.Cond.selects "ScaleInspectionModel" ({ cls := "ScaleInspectionModel", name := "weighingCount", desc := "(I)I" } : Jvm.MethodName) ({ cls := "ScaleInspectionModel", name := "weighingCount", desc := "(I)I" } : Jvm.MethodName)) ∈ lw_all := lw_g (lw_at lw_m9 86 rfl) rfl
theorem q2092 : (Jvm.Cond.code ({ cls := "ScaleInspectionModel", name := "weighingCount", desc := "(I)I" } : Jvm.MethodName) prog_21_method_81_code (2 : Nat) (Option.some Jvm.ClassFile.FieldType.int)) ∈ lw_all := lw_g (lw_at lw_m9 87 rfl) rfl
theorem q2094 : (Jvm.Cond.instanceMethod ({ cls := "ScaleInspectionModel", name := "hypothesisCount", desc := "(I)I" } : Jvm.MethodName)) ∈ lw_all := lw_g (lw_at lw_m9 89 rfl) rfl
theorem q2095 : (Jvm.Cond.selects "ScaleInspectionModel" ({ cls := "ScaleInspectionModel", name := "hypothesisCount", desc := "(I)I" } : Jvm.MethodName) ({ cls := "ScaleInspectionModel", name := "hypothesisCount", desc := "(I)I" } : Jvm.MethodName)) ∈ lw_all := lw_g (lw_at lw_m9 90 rfl) rfl
theorem q2096 : (Jvm.Cond.code ({ cls := "ScaleInspectionModel", name := "hypothesisCount", desc := "(I)I" } : Jvm.MethodName) prog_21_method_82_code (2 : Nat) (Option.some Jvm.ClassFile.FieldType.int)) ∈ lw_all := lw_g (lw_at lw_m9 91 rfl) rfl
theorem q2097 : (Jvm.Cond.methodLink "ScaleInspectionModel" (328 : Nat) ({ cls := "ScaleInspectionModel", name := "countOf", desc := "(I)I" } : Jvm.MethodName)) ∈ lw_all := lw_g (lw_at lw_m9 92 rfl) rfl
theorem q2098 : (Jvm.Cond.privateMethod ({ cls := "ScaleInspectionModel", name := "countOf", desc := "(I)I" } : Jvm.MethodName)) ∈ lw_tbl := lw_at lw_m9 93 rfl
theorem q2099 : (Jvm.Cond.instanceMethod ({ cls := "ScaleInspectionModel", name := "countOf", desc := "(I)I" } : Jvm.MethodName)) ∈ lw_all := lw_g (lw_at lw_m9 94 rfl) rfl
theorem q2100 : (Jvm.Cond.code ({ cls := "ScaleInspectionModel", name := "countOf", desc := "(I)I" } : Jvm.MethodName) prog_21_method_78_code (2 : Nat) (Option.some Jvm.ClassFile.FieldType.int)) ∈ lw_all := lw_g (lw_at lw_m9 95 rfl) rfl
theorem q2102 : (Jvm.Cond.instanceMethod ({ cls := "ScaleInspectionModel", name := "heavySuspects", desc := "(I)I" } : Jvm.MethodName)) ∈ lw_all := lw_g (lw_at lw_m9 97 rfl) rfl
theorem q2103 : (Jvm.Cond.selects "ScaleInspectionModel" ({ cls := "ScaleInspectionModel", name := "heavySuspects", desc := "(I)I" } : Jvm.MethodName) ({ cls := "ScaleInspectionModel", name := "heavySuspects", desc := "(I)I" } : Jvm.MethodName)) ∈ lw_all := lw_g (lw_at lw_m9 98 rfl) rfl
theorem q2104 : (Jvm.Cond.code ({ cls := "ScaleInspectionModel", name := "heavySuspects", desc := "(I)I" } : Jvm.MethodName) prog_21_method_83_code (2 : Nat) (Option.some Jvm.ClassFile.FieldType.int)) ∈ lw_all := lw_g (lw_at lw_m9 99 rfl) rfl
theorem q2106 : (Jvm.Cond.instanceMethod ({ cls := "ScaleInspectionModel", name := "lightSuspects", desc := "(I)I" } : Jvm.MethodName)) ∈ lw_all := lw_g (lw_at lw_m9 101 rfl) rfl
theorem q2107 : (Jvm.Cond.selects "ScaleInspectionModel" ({ cls := "ScaleInspectionModel", name := "lightSuspects", desc := "(I)I" } : Jvm.MethodName) ({ cls := "ScaleInspectionModel", name := "lightSuspects", desc := "(I)I" } : Jvm.MethodName)) ∈ lw_all := lw_g (lw_at lw_m9 102 rfl) rfl
theorem q2108 : (Jvm.Cond.code ({ cls := "ScaleInspectionModel", name := "lightSuspects", desc := "(I)I" } : Jvm.MethodName) prog_21_method_84_code (2 : Nat) (Option.some Jvm.ClassFile.FieldType.int)) ∈ lw_all := lw_g (lw_at lw_m9 103 rfl) rfl
theorem q2110 : (Jvm.Cond.instanceMethod ({ cls := "ScaleInspectionModel", name := "canBeGenuine", desc := "(I)I" } : Jvm.MethodName)) ∈ lw_all := lw_g (lw_at lw_m9 105 rfl) rfl
theorem q2111 : (Jvm.Cond.selects "ScaleInspectionModel" ({ cls := "ScaleInspectionModel", name := "canBeGenuine", desc := "(I)I" } : Jvm.MethodName) ({ cls := "ScaleInspectionModel", name := "canBeGenuine", desc := "(I)I" } : Jvm.MethodName)) ∈ lw_all := lw_g (lw_at lw_m9 106 rfl) rfl
theorem q2112 : (Jvm.Cond.code ({ cls := "ScaleInspectionModel", name := "canBeGenuine", desc := "(I)I" } : Jvm.MethodName) prog_21_method_85_code (2 : Nat) (Option.some Jvm.ClassFile.FieldType.int)) ∈ lw_all := lw_g (lw_at lw_m9 107 rfl) rfl
theorem q2114 : (Jvm.Cond.instanceMethod ({ cls := "ScaleInspectionModel", name := "finding", desc := "(I)I" } : Jvm.MethodName)) ∈ lw_all := lw_g (lw_at lw_m9 109 rfl) rfl
theorem q2115 : (Jvm.Cond.selects "ScaleInspectionModel" ({ cls := "ScaleInspectionModel", name := "finding", desc := "(I)I" } : Jvm.MethodName) ({ cls := "ScaleInspectionModel", name := "finding", desc := "(I)I" } : Jvm.MethodName)) ∈ lw_all := lw_g (lw_at lw_m9 110 rfl) rfl
theorem q2116 : (Jvm.Cond.code ({ cls := "ScaleInspectionModel", name := "finding", desc := "(I)I" } : Jvm.MethodName) prog_21_method_86_code (3 : Nat) (Option.some Jvm.ClassFile.FieldType.int)) ∈ lw_all := lw_g (lw_at lw_m9 111 rfl) rfl
theorem q2118 : (Jvm.Cond.instanceMethod ({ cls := "ScaleInspectionModel", name := "weighingsNeeded", desc := "(I)I" } : Jvm.MethodName)) ∈ lw_all := lw_g (lw_at lw_m9 113 rfl) rfl
theorem q2119 : (Jvm.Cond.selects "ScaleInspectionModel" ({ cls := "ScaleInspectionModel", name := "weighingsNeeded", desc := "(I)I" } : Jvm.MethodName) ({ cls := "ScaleInspectionModel", name := "weighingsNeeded", desc := "(I)I" } : Jvm.MethodName)) ∈ lw_all := lw_g (lw_at lw_m9 114 rfl) rfl
theorem q2120 : (Jvm.Cond.code ({ cls := "ScaleInspectionModel", name := "weighingsNeeded", desc := "(I)I" } : Jvm.MethodName) prog_21_method_88_code (3 : Nat) (Option.some Jvm.ClassFile.FieldType.int)) ∈ lw_all := lw_g (lw_at lw_m9 115 rfl) rfl
theorem q2121 : (Jvm.Cond.methodLink "ScaleInspectionModel" (337 : Nat) ({ cls := "ScaleInspectionModel", name := "needed", desc := "(I)I" } : Jvm.MethodName)) ∈ lw_all := lw_g (lw_at lw_m9 116 rfl) rfl
theorem q2122 : (Jvm.Cond.privateMethod ({ cls := "ScaleInspectionModel", name := "needed", desc := "(I)I" } : Jvm.MethodName)) ∈ lw_tbl := lw_at lw_m9 117 rfl
theorem q2123 : (Jvm.Cond.instanceMethod ({ cls := "ScaleInspectionModel", name := "needed", desc := "(I)I" } : Jvm.MethodName)) ∈ lw_all := lw_g (lw_at lw_m9 118 rfl) rfl
theorem q2124 : (Jvm.Cond.code ({ cls := "ScaleInspectionModel", name := "needed", desc := "(I)I" } : Jvm.MethodName) prog_21_method_87_code (2 : Nat) (Option.some Jvm.ClassFile.FieldType.int)) ∈ lw_all := lw_g (lw_at lw_m9 119 rfl) rfl
theorem q2125 : (Jvm.Cond.methodLink "ScaleInspectionModel" (331 : Nat) ({ cls := "ScaleInspectionModel", name := "lays", desc := "(I)V" } : Jvm.MethodName)) ∈ lw_all := lw_g (lw_at lw_m9 120 rfl) rfl
theorem q2126 : (Jvm.Cond.privateMethod ({ cls := "ScaleInspectionModel", name := "lays", desc := "(I)V" } : Jvm.MethodName)) ∈ lw_tbl := lw_at lw_m9 121 rfl
theorem q2127 : (Jvm.Cond.instanceMethod ({ cls := "ScaleInspectionModel", name := "lays", desc := "(I)V" } : Jvm.MethodName)) ∈ lw_all := lw_g (lw_at lw_m9 122 rfl) rfl
theorem q2128 : (Jvm.Cond.code ({ cls := "ScaleInspectionModel", name := "lays", desc := "(I)V" } : Jvm.MethodName) prog_21_method_73_code (4 : Nat) (Option.none : Option Jvm.ClassFile.FieldType)) ∈ lw_all := lw_g (lw_at lw_m9 123 rfl) rfl
theorem q2129 : (Jvm.Cond.methodLink "ScaleInspectionModel" (307 : Nat) ({ cls := "ScaleInspectionModel", name := "leastOne", desc := "(III)I" } : Jvm.MethodName)) ∈ lw_all := lw_g (lw_at lw_m9 124 rfl) rfl
theorem q2130 : (Jvm.Cond.privateMethod ({ cls := "ScaleInspectionModel", name := "leastOne", desc := "(III)I" } : Jvm.MethodName)) ∈ lw_tbl := lw_at lw_m9 125 rfl
theorem q2131 : (Jvm.Cond.instanceMethod ({ cls := "ScaleInspectionModel", name := "leastOne", desc := "(III)I" } : Jvm.MethodName)) ∈ lw_all := lw_g (lw_at lw_m9 126 rfl) rfl
theorem q2132 : (Jvm.Cond.code ({ cls := "ScaleInspectionModel", name := "leastOne", desc := "(III)I" } : Jvm.MethodName) prog_21_method_74_code (12 : Nat) (Option.some Jvm.ClassFile.FieldType.int)) ∈ lw_all := lw_g (lw_at lw_m9 127 rfl) rfl
theorem q2133 : (Jvm.Cond.methodLink "ScaleInspectionModel" (314 : Nat) ({ cls := "ScaleInspectionModel", name := "oneOf", desc := "(II)I" } : Jvm.MethodName)) ∈ lw_all := lw_g (lw_at lw_m9 128 rfl) rfl
theorem q2134 : (Jvm.Cond.privateMethod ({ cls := "ScaleInspectionModel", name := "oneOf", desc := "(II)I" } : Jvm.MethodName)) ∈ lw_tbl := lw_at lw_m9 129 rfl
theorem q2135 : (Jvm.Cond.instanceMethod ({ cls := "ScaleInspectionModel", name := "oneOf", desc := "(II)I" } : Jvm.MethodName)) ∈ lw_all := lw_g (lw_at lw_m9 130 rfl) rfl
theorem q2136 : (Jvm.Cond.code ({ cls := "ScaleInspectionModel", name := "oneOf", desc := "(II)I" } : Jvm.MethodName) prog_21_method_71_code (3 : Nat) (Option.some Jvm.ClassFile.FieldType.int)) ∈ lw_all := lw_g (lw_at lw_m9 131 rfl) rfl
theorem q2137 : (Jvm.Cond.methodLink "ScaleInspectionModel" (317 : Nat) ({ cls := "ScaleInspectionModel", name := "worse", desc := "(II)I" } : Jvm.MethodName)) ∈ lw_all := lw_g (lw_at lw_m9 132 rfl) rfl
theorem q2138 : (Jvm.Cond.static ({ cls := "ScaleInspectionModel", name := "worse", desc := "(II)I" } : Jvm.MethodName)) ∈ lw_all := lw_g (lw_at lw_m9 133 rfl) rfl
theorem q2139 : (Jvm.Cond.code ({ cls := "ScaleInspectionModel", name := "worse", desc := "(II)I" } : Jvm.MethodName) prog_21_method_70_code (2 : Nat) (Option.some Jvm.ClassFile.FieldType.int)) ∈ lw_all := lw_g (lw_at lw_m9 134 rfl) rfl
theorem q2140 : (Jvm.Cond.methodLink "ScaleInspectionModel" (311 : Nat) ({ cls := "ScaleInspectionModel", name := "leastBoth", desc := "(III)I" } : Jvm.MethodName)) ∈ lw_all := lw_g (lw_at lw_m9 135 rfl) rfl
theorem q2141 : (Jvm.Cond.privateMethod ({ cls := "ScaleInspectionModel", name := "leastBoth", desc := "(III)I" } : Jvm.MethodName)) ∈ lw_tbl := lw_at lw_m9 136 rfl
theorem q2142 : (Jvm.Cond.instanceMethod ({ cls := "ScaleInspectionModel", name := "leastBoth", desc := "(III)I" } : Jvm.MethodName)) ∈ lw_all := lw_g (lw_at lw_m9 137 rfl) rfl
theorem q2143 : (Jvm.Cond.code ({ cls := "ScaleInspectionModel", name := "leastBoth", desc := "(III)I" } : Jvm.MethodName) prog_21_method_75_code (8 : Nat) (Option.some Jvm.ClassFile.FieldType.int)) ∈ lw_all := lw_g (lw_at lw_m9 138 rfl) rfl
theorem q2144 : (Jvm.Cond.methodLink "ScaleInspectionModel" (320 : Nat) ({ cls := "ScaleInspectionModel", name := "bothOf", desc := "(II)I" } : Jvm.MethodName)) ∈ lw_all := lw_g (lw_at lw_m9 139 rfl) rfl
theorem q2145 : (Jvm.Cond.privateMethod ({ cls := "ScaleInspectionModel", name := "bothOf", desc := "(II)I" } : Jvm.MethodName)) ∈ lw_tbl := lw_at lw_m9 140 rfl
theorem q2146 : (Jvm.Cond.instanceMethod ({ cls := "ScaleInspectionModel", name := "bothOf", desc := "(II)I" } : Jvm.MethodName)) ∈ lw_all := lw_g (lw_at lw_m9 141 rfl) rfl
theorem q2147 : (Jvm.Cond.code ({ cls := "ScaleInspectionModel", name := "bothOf", desc := "(II)I" } : Jvm.MethodName) prog_21_method_72_code (3 : Nat) (Option.some Jvm.ClassFile.FieldType.int)) ∈ lw_all := lw_g (lw_at lw_m9 142 rfl) rfl
theorem q2148 : (Jvm.Cond.methodLink "ScaleInspectionModel" (334 : Nat) ({ cls := "ScaleInspectionModel", name := "needs", desc := "(III)I" } : Jvm.MethodName)) ∈ lw_all := lw_g (lw_at lw_m9 143 rfl) rfl
theorem q2149 : (Jvm.Cond.privateMethod ({ cls := "ScaleInspectionModel", name := "needs", desc := "(III)I" } : Jvm.MethodName)) ∈ lw_tbl := lw_at lw_m9 144 rfl
theorem q2150 : (Jvm.Cond.instanceMethod ({ cls := "ScaleInspectionModel", name := "needs", desc := "(III)I" } : Jvm.MethodName)) ∈ lw_all := lw_g (lw_at lw_m9 145 rfl) rfl
theorem q2151 : (Jvm.Cond.code ({ cls := "ScaleInspectionModel", name := "needs", desc := "(III)I" } : Jvm.MethodName) prog_21_method_76_code (4 : Nat) (Option.some Jvm.ClassFile.FieldType.int)) ∈ lw_all := lw_g (lw_at lw_m9 146 rfl) rfl
theorem q2153 : (Jvm.Cond.instanceMethod ({ cls := "ScaleInspectionModel", name := "bestLeft", desc := "(I)I" } : Jvm.MethodName)) ∈ lw_all := lw_g (lw_at lw_m9 148 rfl) rfl
theorem q2154 : (Jvm.Cond.selects "ScaleInspectionModel" ({ cls := "ScaleInspectionModel", name := "bestLeft", desc := "(I)I" } : Jvm.MethodName) ({ cls := "ScaleInspectionModel", name := "bestLeft", desc := "(I)I" } : Jvm.MethodName)) ∈ lw_all := lw_g (lw_at lw_m9 149 rfl) rfl
theorem q2155 : (Jvm.Cond.code ({ cls := "ScaleInspectionModel", name := "bestLeft", desc := "(I)I" } : Jvm.MethodName) prog_21_method_91_code (2 : Nat) (Option.some Jvm.ClassFile.FieldType.int)) ∈ lw_all := lw_g (lw_at lw_m9 150 rfl) rfl
theorem q2156 : (Jvm.Cond.methodLink "ScaleInspectionModel" (346 : Nat) ({ cls := "ScaleInspectionModel", name := "best", desc := "(I)I" } : Jvm.MethodName)) ∈ lw_all := lw_g (lw_at lw_m9 151 rfl) rfl
theorem q2157 : (Jvm.Cond.privateMethod ({ cls := "ScaleInspectionModel", name := "best", desc := "(I)I" } : Jvm.MethodName)) ∈ lw_tbl := lw_at lw_m9 152 rfl
theorem q2158 : (Jvm.Cond.instanceMethod ({ cls := "ScaleInspectionModel", name := "best", desc := "(I)I" } : Jvm.MethodName)) ∈ lw_all := lw_g (lw_at lw_m9 153 rfl) rfl
theorem q2159 : (Jvm.Cond.code ({ cls := "ScaleInspectionModel", name := "best", desc := "(I)I" } : Jvm.MethodName) prog_21_method_90_code (8 : Nat) (Option.some Jvm.ClassFile.FieldType.int)) ∈ lw_all := lw_g (lw_at lw_m9 154 rfl) rfl
theorem q2160 : (Jvm.Cond.methodLink "ScaleInspectionModel" (343 : Nat) ({ cls := "ScaleInspectionModel", name := "behind", desc := "(III)I" } : Jvm.MethodName)) ∈ lw_all := lw_g (lw_at lw_m9 155 rfl) rfl
theorem q2161 : (Jvm.Cond.privateMethod ({ cls := "ScaleInspectionModel", name := "behind", desc := "(III)I" } : Jvm.MethodName)) ∈ lw_tbl := lw_at lw_m9 156 rfl
theorem q2162 : (Jvm.Cond.instanceMethod ({ cls := "ScaleInspectionModel", name := "behind", desc := "(III)I" } : Jvm.MethodName)) ∈ lw_all := lw_g (lw_at lw_m9 157 rfl) rfl
theorem q2163 : (Jvm.Cond.code ({ cls := "ScaleInspectionModel", name := "behind", desc := "(III)I" } : Jvm.MethodName) prog_21_method_89_code (9 : Nat) (Option.some Jvm.ClassFile.FieldType.int)) ∈ lw_all := lw_g (lw_at lw_m9 158 rfl) rfl
theorem q2165 : (Jvm.Cond.instanceMethod ({ cls := "ScaleInspectionModel", name := "bestRight", desc := "(I)I" } : Jvm.MethodName)) ∈ lw_all := lw_g (lw_at lw_m9 160 rfl) rfl
theorem q2166 : (Jvm.Cond.selects "ScaleInspectionModel" ({ cls := "ScaleInspectionModel", name := "bestRight", desc := "(I)I" } : Jvm.MethodName) ({ cls := "ScaleInspectionModel", name := "bestRight", desc := "(I)I" } : Jvm.MethodName)) ∈ lw_all := lw_g (lw_at lw_m9 161 rfl) rfl
theorem q2167 : (Jvm.Cond.code ({ cls := "ScaleInspectionModel", name := "bestRight", desc := "(I)I" } : Jvm.MethodName) prog_21_method_92_code (3 : Nat) (Option.some Jvm.ClassFile.FieldType.int)) ∈ lw_all := lw_g (lw_at lw_m9 162 rfl) rfl
theorem q2169 : (Jvm.Cond.instanceMethod ({ cls := "ScaleInspectionModel", name := "fewestWeighings", desc := "(IZ)I" } : Jvm.MethodName)) ∈ lw_all := lw_g (lw_at lw_m9 164 rfl) rfl
theorem q2170 : (Jvm.Cond.selects "ScaleInspectionModel" ({ cls := "ScaleInspectionModel", name := "fewestWeighings", desc := "(IZ)I" } : Jvm.MethodName) ({ cls := "ScaleInspectionModel", name := "fewestWeighings", desc := "(IZ)I" } : Jvm.MethodName)) ∈ lw_all := lw_g (lw_at lw_m9 165 rfl) rfl
theorem q2171 : (Jvm.Cond.code ({ cls := "ScaleInspectionModel", name := "fewestWeighings", desc := "(IZ)I" } : Jvm.MethodName) prog_21_method_93_code (4 : Nat) (Option.some Jvm.ClassFile.FieldType.int)) ∈ lw_all := lw_g (lw_at lw_m9 166 rfl) rfl
theorem q2172 : (Jvm.Cond.constantLong "ScaleInspectionModel" (349 : Nat) (12 : Int64)) ∈ lw_all := lw_g (lw_at lw_m9 167 rfl) rfl
theorem q2174 : (Jvm.Cond.instanceMethod ({ cls := "ScaleInspectionModel", name := "undo", desc := "()Z" } : Jvm.MethodName)) ∈ lw_all := lw_g (lw_at lw_m9 169 rfl) rfl
theorem q2175 : (Jvm.Cond.selects "ScaleInspectionModel" ({ cls := "ScaleInspectionModel", name := "undo", desc := "()Z" } : Jvm.MethodName) ({ cls := "ScaleInspectionModel", name := "undo", desc := "()Z" } : Jvm.MethodName)) ∈ lw_all := lw_g (lw_at lw_m9 170 rfl) rfl
theorem q2176 : (Jvm.Cond.code ({ cls := "ScaleInspectionModel", name := "undo", desc := "()Z" } : Jvm.MethodName) prog_21_method_95_code (1 : Nat) (Option.some Jvm.ClassFile.FieldType.boolean)) ∈ lw_all := lw_g (lw_at lw_m9 171 rfl) rfl
theorem q2178 : (Jvm.Cond.instanceMethod ({ cls := "ScaleInspectionModel", name := "undoDepth", desc := "()I" } : Jvm.MethodName)) ∈ lw_all := lw_g (lw_at lw_m9 173 rfl) rfl
theorem q2179 : (Jvm.Cond.selects "ScaleInspectionModel" ({ cls := "ScaleInspectionModel", name := "undoDepth", desc := "()I" } : Jvm.MethodName) ({ cls := "ScaleInspectionModel", name := "undoDepth", desc := "()I" } : Jvm.MethodName)) ∈ lw_all := lw_g (lw_at lw_m9 174 rfl) rfl
theorem q2180 : (Jvm.Cond.code ({ cls := "ScaleInspectionModel", name := "undoDepth", desc := "()I" } : Jvm.MethodName) prog_21_method_96_code (1 : Nat) (Option.some Jvm.ClassFile.FieldType.int)) ∈ lw_all := lw_g (lw_at lw_m9 175 rfl) rfl
theorem q2182 : (Jvm.Cond.instanceMethod ({ cls := "ScaleInspectionModel", name := "saveSnapshot", desc := "(I)Z" } : Jvm.MethodName)) ∈ lw_all := lw_g (lw_at lw_m9 177 rfl) rfl
theorem q2183 : (Jvm.Cond.selects "ScaleInspectionModel" ({ cls := "ScaleInspectionModel", name := "saveSnapshot", desc := "(I)Z" } : Jvm.MethodName) ({ cls := "ScaleInspectionModel", name := "saveSnapshot", desc := "(I)Z" } : Jvm.MethodName)) ∈ lw_all := lw_g (lw_at lw_m9 178 rfl) rfl
theorem q2184 : (Jvm.Cond.code ({ cls := "ScaleInspectionModel", name := "saveSnapshot", desc := "(I)Z" } : Jvm.MethodName) prog_21_method_97_code (2 : Nat) (Option.some Jvm.ClassFile.FieldType.boolean)) ∈ lw_all := lw_g (lw_at lw_m9 179 rfl) rfl
theorem q2186 : (Jvm.Cond.instanceMethod ({ cls := "ScaleInspectionModel", name := "restoreSnapshot", desc := "(I)Z" } : Jvm.MethodName)) ∈ lw_all := lw_g (lw_at lw_m9 181 rfl) rfl
theorem q2187 : (Jvm.Cond.selects "ScaleInspectionModel" ({ cls := "ScaleInspectionModel", name := "restoreSnapshot", desc := "(I)Z" } : Jvm.MethodName) ({ cls := "ScaleInspectionModel", name := "restoreSnapshot", desc := "(I)Z" } : Jvm.MethodName)) ∈ lw_all := lw_g (lw_at lw_m9 182 rfl) rfl
theorem q2188 : (Jvm.Cond.code ({ cls := "ScaleInspectionModel", name := "restoreSnapshot", desc := "(I)Z" } : Jvm.MethodName) prog_21_method_98_code (2 : Nat) (Option.some Jvm.ClassFile.FieldType.boolean)) ∈ lw_all := lw_g (lw_at lw_m9 183 rfl) rfl
theorem q2211 : (Jvm.Cond.castable "ScaleInspectionModel" "java/lang/Object") ∈ lw_tbl := lw_at lw_m9 206 rfl


set_option maxRecDepth 100000
abbrev cX4_keeps : ByteArray := prog_21_method_94_code
def yX4_keeps : MethodName := ⟨RX4, "keeps", "()V"⟩
def dkwX4_keeps_3 : List UInt8 := [96, 181, 0, 231, 177]
abbrev dktX4_keeps_3 : List UInt8 := dkwX4_keeps_3 ++ []
def dkwX4_keeps_2 : List UInt8 := [42, 180, 0, 85, 17, 2, 165, 42, 180, 0, 231, 104, 17, 2, 165, 184, 0, 221, 42, 89, 180, 0, 231, 4]
abbrev dktX4_keeps_2 : List UInt8 := dkwX4_keeps_2 ++ dktX4_keeps_3
def dkwX4_keeps_1 : List UInt8 := [17, 2, 165, 42, 180, 0, 85, 3, 17, 2, 165, 42, 180, 0, 231, 104, 184, 0, 221, 42, 180, 0, 13, 3]
abbrev dktX4_keeps_1 : List UInt8 := dkwX4_keeps_1 ++ dktX4_keeps_2
def dkwX4_keeps_0 : List UInt8 := [42, 180, 0, 231, 16, 12, 160, 0, 36, 42, 89, 180, 0, 231, 4, 100, 181, 0, 231, 42, 180, 0, 85]
abbrev dktX4_keeps_0 : List UInt8 := dkwX4_keeps_0 ++ dktX4_keeps_1
theorem dksX4_keeps_0 : cX4_keeps.data.toList.drop 0 = dktX4_keeps_0 := by decide +kernel
theorem dksX4_keeps_1 : cX4_keeps.data.toList.drop 23 = dktX4_keeps_1 := dk_seg dksX4_keeps_0 23 rfl rfl
theorem dksX4_keeps_2 : cX4_keeps.data.toList.drop 47 = dktX4_keeps_2 := dk_seg dksX4_keeps_1 24 rfl rfl
theorem dksX4_keeps_3 : cX4_keeps.data.toList.drop 71 = dktX4_keeps_3 := dk_seg dksX4_keeps_2 24 rfl rfl
theorem dX4_keeps_0 : decode cX4_keeps 0 = .ok (.aload_n 0, 1) := dk_42 (dk_at dksX4_keeps_0 0 rfl rfl)
theorem dX4_keeps_1 : decode cX4_keeps 1 = .ok (.getfield 231, 3) := dk_180 0 231 (dk_at dksX4_keeps_0 1 rfl rfl)
theorem dX4_keeps_4 : decode cX4_keeps 4 = .ok (.bipush 12, 2) := dk_16 12 (dk_at dksX4_keeps_0 4 rfl rfl)
theorem dX4_keeps_6 : decode cX4_keeps 6 = .ok (.if_icmp .ne 36, 3) := dk_160 0 36 (dk_at dksX4_keeps_0 6 rfl rfl)
theorem dX4_keeps_9 : decode cX4_keeps 9 = .ok (.aload_n 0, 1) := dk_42 (dk_at dksX4_keeps_0 9 rfl rfl)
theorem dX4_keeps_10 : decode cX4_keeps 10 = .ok (.dup, 1) := dk_89 (dk_at dksX4_keeps_0 10 rfl rfl)
theorem dX4_keeps_11 : decode cX4_keeps 11 = .ok (.getfield 231, 3) := dk_180 0 231 (dk_at dksX4_keeps_0 11 rfl rfl)
theorem dX4_keeps_14 : decode cX4_keeps 14 = .ok (.iconst 1, 1) := dk_4 (dk_at dksX4_keeps_0 14 rfl rfl)
theorem dX4_keeps_15 : decode cX4_keeps 15 = .ok (.isub, 1) := dk_100 (dk_at dksX4_keeps_0 15 rfl rfl)
theorem dX4_keeps_16 : decode cX4_keeps 16 = .ok (.putfield 231, 3) := dk_181 0 231 (dk_at dksX4_keeps_0 16 rfl rfl)
theorem dX4_keeps_19 : decode cX4_keeps 19 = .ok (.aload_n 0, 1) := dk_42 (dk_at dksX4_keeps_0 19 rfl rfl)
theorem dX4_keeps_20 : decode cX4_keeps 20 = .ok (.getfield 85, 3) := dk_180 0 85 (dk_at dksX4_keeps_0 20 rfl rfl)
theorem dX4_keeps_23 : decode cX4_keeps 23 = .ok (.sipush 677, 3) := dk_17 2 165 (dk_at dksX4_keeps_1 0 rfl rfl)
theorem dX4_keeps_26 : decode cX4_keeps 26 = .ok (.aload_n 0, 1) := dk_42 (dk_at dksX4_keeps_1 3 rfl rfl)
theorem dX4_keeps_27 : decode cX4_keeps 27 = .ok (.getfield 85, 3) := dk_180 0 85 (dk_at dksX4_keeps_1 4 rfl rfl)
theorem dX4_keeps_30 : decode cX4_keeps 30 = .ok (.iconst 0, 1) := dk_3 (dk_at dksX4_keeps_1 7 rfl rfl)
theorem dX4_keeps_31 : decode cX4_keeps 31 = .ok (.sipush 677, 3) := dk_17 2 165 (dk_at dksX4_keeps_1 8 rfl rfl)
theorem dX4_keeps_34 : decode cX4_keeps 34 = .ok (.aload_n 0, 1) := dk_42 (dk_at dksX4_keeps_1 11 rfl rfl)
theorem dX4_keeps_35 : decode cX4_keeps 35 = .ok (.getfield 231, 3) := dk_180 0 231 (dk_at dksX4_keeps_1 12 rfl rfl)
theorem dX4_keeps_38 : decode cX4_keeps 38 = .ok (.imul, 1) := dk_104 (dk_at dksX4_keeps_1 15 rfl rfl)
theorem dX4_keeps_39 : decode cX4_keeps 39 = .ok (.invokestatic 221, 3) := dk_184 0 221 (dk_at dksX4_keeps_1 16 rfl rfl)
theorem dX4_keeps_42 : decode cX4_keeps 42 = .ok (.aload_n 0, 1) := dk_42 (dk_at dksX4_keeps_1 19 rfl rfl)
theorem dX4_keeps_43 : decode cX4_keeps 43 = .ok (.getfield 13, 3) := dk_180 0 13 (dk_at dksX4_keeps_1 20 rfl rfl)
theorem dX4_keeps_46 : decode cX4_keeps 46 = .ok (.iconst 0, 1) := dk_3 (dk_at dksX4_keeps_1 23 rfl rfl)
theorem dX4_keeps_47 : decode cX4_keeps 47 = .ok (.aload_n 0, 1) := dk_42 (dk_at dksX4_keeps_2 0 rfl rfl)
theorem dX4_keeps_48 : decode cX4_keeps 48 = .ok (.getfield 85, 3) := dk_180 0 85 (dk_at dksX4_keeps_2 1 rfl rfl)
theorem dX4_keeps_51 : decode cX4_keeps 51 = .ok (.sipush 677, 3) := dk_17 2 165 (dk_at dksX4_keeps_2 4 rfl rfl)
theorem dX4_keeps_54 : decode cX4_keeps 54 = .ok (.aload_n 0, 1) := dk_42 (dk_at dksX4_keeps_2 7 rfl rfl)
theorem dX4_keeps_55 : decode cX4_keeps 55 = .ok (.getfield 231, 3) := dk_180 0 231 (dk_at dksX4_keeps_2 8 rfl rfl)
theorem dX4_keeps_58 : decode cX4_keeps 58 = .ok (.imul, 1) := dk_104 (dk_at dksX4_keeps_2 11 rfl rfl)
theorem dX4_keeps_59 : decode cX4_keeps 59 = .ok (.sipush 677, 3) := dk_17 2 165 (dk_at dksX4_keeps_2 12 rfl rfl)
theorem dX4_keeps_62 : decode cX4_keeps 62 = .ok (.invokestatic 221, 3) := dk_184 0 221 (dk_at dksX4_keeps_2 15 rfl rfl)
theorem dX4_keeps_65 : decode cX4_keeps 65 = .ok (.aload_n 0, 1) := dk_42 (dk_at dksX4_keeps_2 18 rfl rfl)
theorem dX4_keeps_66 : decode cX4_keeps 66 = .ok (.dup, 1) := dk_89 (dk_at dksX4_keeps_2 19 rfl rfl)
theorem dX4_keeps_67 : decode cX4_keeps 67 = .ok (.getfield 231, 3) := dk_180 0 231 (dk_at dksX4_keeps_2 20 rfl rfl)
theorem dX4_keeps_70 : decode cX4_keeps 70 = .ok (.iconst 1, 1) := dk_4 (dk_at dksX4_keeps_2 23 rfl rfl)
theorem dX4_keeps_71 : decode cX4_keeps 71 = .ok (.iadd, 1) := dk_96 (dk_at dksX4_keeps_3 0 rfl rfl)
theorem dX4_keeps_72 : decode cX4_keeps 72 = .ok (.putfield 231, 3) := dk_181 0 231 (dk_at dksX4_keeps_3 1 rfl rfl)
theorem dX4_keeps_75 : decode cX4_keeps 75 = .ok (.return_, 1) := dk_177 (dk_at dksX4_keeps_3 4 rfl rfl)
abbrev cX4_visitCount : ByteArray := prog_21_method_40_code
def yX4_visitCount : MethodName := ⟨RX4, "visitCount", "()I"⟩
def dkwX4_visitCount_0 : List UInt8 := [42, 3, 181, 0, 1, 42, 180, 0, 13, 3, 46, 172]
abbrev dktX4_visitCount_0 : List UInt8 := dkwX4_visitCount_0 ++ []
theorem dksX4_visitCount_0 : cX4_visitCount.data.toList.drop 0 = dktX4_visitCount_0 := by decide +kernel
theorem dX4_visitCount_0 : decode cX4_visitCount 0 = .ok (.aload_n 0, 1) := dk_42 (dk_at dksX4_visitCount_0 0 rfl rfl)
theorem dX4_visitCount_1 : decode cX4_visitCount 1 = .ok (.iconst 0, 1) := dk_3 (dk_at dksX4_visitCount_0 1 rfl rfl)
theorem dX4_visitCount_2 : decode cX4_visitCount 2 = .ok (.putfield 1, 3) := dk_181 0 1 (dk_at dksX4_visitCount_0 2 rfl rfl)
theorem dX4_visitCount_5 : decode cX4_visitCount 5 = .ok (.aload_n 0, 1) := dk_42 (dk_at dksX4_visitCount_0 5 rfl rfl)
theorem dX4_visitCount_6 : decode cX4_visitCount 6 = .ok (.getfield 13, 3) := dk_180 0 13 (dk_at dksX4_visitCount_0 6 rfl rfl)
theorem dX4_visitCount_9 : decode cX4_visitCount 9 = .ok (.iconst 0, 1) := dk_3 (dk_at dksX4_visitCount_0 9 rfl rfl)
theorem dX4_visitCount_10 : decode cX4_visitCount 10 = .ok (.iaload, 1) := dk_46 (dk_at dksX4_visitCount_0 10 rfl rfl)
theorem dX4_visitCount_11 : decode cX4_visitCount 11 = .ok (.ireturn, 1) := dk_172 (dk_at dksX4_visitCount_0 11 rfl rfl)
abbrev cX4_visitScale : ByteArray := prog_21_method_41_code
def yX4_visitScale : MethodName := ⟨RX4, "visitScale", "(I)I"⟩
def dkwX4_visitScale_1 : List UInt8 := [2, 172]
abbrev dktX4_visitScale_1 : List UInt8 := dkwX4_visitScale_1 ++ []
def dkwX4_visitScale_0 : List UInt8 := [42, 3, 181, 0, 1, 42, 27, 182, 0, 252, 153, 0, 14, 42, 180, 0, 13, 4, 27, 96, 46, 167, 0, 4]
abbrev dktX4_visitScale_0 : List UInt8 := dkwX4_visitScale_0 ++ dktX4_visitScale_1
theorem dksX4_visitScale_0 : cX4_visitScale.data.toList.drop 0 = dktX4_visitScale_0 := by decide +kernel
theorem dksX4_visitScale_1 : cX4_visitScale.data.toList.drop 24 = dktX4_visitScale_1 := dk_seg dksX4_visitScale_0 24 rfl rfl
theorem dX4_visitScale_0 : decode cX4_visitScale 0 = .ok (.aload_n 0, 1) := dk_42 (dk_at dksX4_visitScale_0 0 rfl rfl)
theorem dX4_visitScale_1 : decode cX4_visitScale 1 = .ok (.iconst 0, 1) := dk_3 (dk_at dksX4_visitScale_0 1 rfl rfl)
theorem dX4_visitScale_2 : decode cX4_visitScale 2 = .ok (.putfield 1, 3) := dk_181 0 1 (dk_at dksX4_visitScale_0 2 rfl rfl)
theorem dX4_visitScale_5 : decode cX4_visitScale 5 = .ok (.aload_n 0, 1) := dk_42 (dk_at dksX4_visitScale_0 5 rfl rfl)
theorem dX4_visitScale_6 : decode cX4_visitScale 6 = .ok (.iload_n 1, 1) := dk_27 (dk_at dksX4_visitScale_0 6 rfl rfl)
theorem dX4_visitScale_7 : decode cX4_visitScale 7 = .ok (.invokevirtual 252, 3) := dk_182 0 252 (dk_at dksX4_visitScale_0 7 rfl rfl)
theorem dX4_visitScale_10 : decode cX4_visitScale 10 = .ok (.ifCond .eq 14, 3) := dk_153 0 14 (dk_at dksX4_visitScale_0 10 rfl rfl)
theorem dX4_visitScale_13 : decode cX4_visitScale 13 = .ok (.aload_n 0, 1) := dk_42 (dk_at dksX4_visitScale_0 13 rfl rfl)
theorem dX4_visitScale_14 : decode cX4_visitScale 14 = .ok (.getfield 13, 3) := dk_180 0 13 (dk_at dksX4_visitScale_0 14 rfl rfl)
theorem dX4_visitScale_17 : decode cX4_visitScale 17 = .ok (.iconst 1, 1) := dk_4 (dk_at dksX4_visitScale_0 17 rfl rfl)
theorem dX4_visitScale_18 : decode cX4_visitScale 18 = .ok (.iload_n 1, 1) := dk_27 (dk_at dksX4_visitScale_0 18 rfl rfl)
theorem dX4_visitScale_19 : decode cX4_visitScale 19 = .ok (.iadd, 1) := dk_96 (dk_at dksX4_visitScale_0 19 rfl rfl)
theorem dX4_visitScale_20 : decode cX4_visitScale 20 = .ok (.iaload, 1) := dk_46 (dk_at dksX4_visitScale_0 20 rfl rfl)
theorem dX4_visitScale_21 : decode cX4_visitScale 21 = .ok (.goto 4, 3) := dk_167 0 4 (dk_at dksX4_visitScale_0 21 rfl rfl)
theorem dX4_visitScale_24 : decode cX4_visitScale 24 = .ok (.iconst (-1), 1) := dk_2 (dk_at dksX4_visitScale_1 0 rfl rfl)
theorem dX4_visitScale_25 : decode cX4_visitScale 25 = .ok (.ireturn, 1) := dk_172 (dk_at dksX4_visitScale_1 1 rfl rfl)
abbrev cX4_isVisit : ByteArray := prog_21_method_38_code
def yX4_isVisit : MethodName := ⟨RX4, "isVisit", "(I)Z"⟩
def dkwX4_isVisit_0 : List UInt8 := [27, 133, 9, 42, 180, 0, 13, 3, 46, 4, 100, 133, 184, 0, 124, 172]
abbrev dktX4_isVisit_0 : List UInt8 := dkwX4_isVisit_0 ++ []
theorem dksX4_isVisit_0 : cX4_isVisit.data.toList.drop 0 = dktX4_isVisit_0 := by decide +kernel
theorem dX4_isVisit_0 : decode cX4_isVisit 0 = .ok (.iload_n 1, 1) := dk_27 (dk_at dksX4_isVisit_0 0 rfl rfl)
theorem dX4_isVisit_1 : decode cX4_isVisit 1 = .ok (.i2l, 1) := dk_133 (dk_at dksX4_isVisit_0 1 rfl rfl)
theorem dX4_isVisit_2 : decode cX4_isVisit 2 = .ok (.lconst 0, 1) := dk_9 (dk_at dksX4_isVisit_0 2 rfl rfl)
theorem dX4_isVisit_3 : decode cX4_isVisit 3 = .ok (.aload_n 0, 1) := dk_42 (dk_at dksX4_isVisit_0 3 rfl rfl)
theorem dX4_isVisit_4 : decode cX4_isVisit 4 = .ok (.getfield 13, 3) := dk_180 0 13 (dk_at dksX4_isVisit_0 4 rfl rfl)
theorem dX4_isVisit_7 : decode cX4_isVisit 7 = .ok (.iconst 0, 1) := dk_3 (dk_at dksX4_isVisit_0 7 rfl rfl)
theorem dX4_isVisit_8 : decode cX4_isVisit 8 = .ok (.iaload, 1) := dk_46 (dk_at dksX4_isVisit_0 8 rfl rfl)
theorem dX4_isVisit_9 : decode cX4_isVisit 9 = .ok (.iconst 1, 1) := dk_4 (dk_at dksX4_isVisit_0 9 rfl rfl)
theorem dX4_isVisit_10 : decode cX4_isVisit 10 = .ok (.isub, 1) := dk_100 (dk_at dksX4_isVisit_0 10 rfl rfl)
theorem dX4_isVisit_11 : decode cX4_isVisit 11 = .ok (.i2l, 1) := dk_133 (dk_at dksX4_isVisit_0 11 rfl rfl)
theorem dX4_isVisit_12 : decode cX4_isVisit 12 = .ok (.invokestatic 124, 3) := dk_184 0 124 (dk_at dksX4_isVisit_0 12 rfl rfl)
theorem dX4_isVisit_15 : decode cX4_isVisit 15 = .ok (.ireturn, 1) := dk_172 (dk_at dksX4_isVisit_0 15 rfl rfl)
abbrev cX4_isInService : ByteArray := prog_21_method_42_code
def yX4_isInService : MethodName := ⟨RX4, "isInService", "(I)I"⟩
def dkwX4_isInService_1 : List UInt8 := [167, 0, 4, 2, 172]
abbrev dktX4_isInService_1 : List UInt8 := dkwX4_isInService_1 ++ []
def dkwX4_isInService_0 : List UInt8 := [42, 3, 181, 0, 1, 42, 27, 182, 0, 252, 153, 0, 15, 42, 180, 0, 13, 16, 121, 27, 96, 46]
abbrev dktX4_isInService_0 : List UInt8 := dkwX4_isInService_0 ++ dktX4_isInService_1
theorem dksX4_isInService_0 : cX4_isInService.data.toList.drop 0 = dktX4_isInService_0 := by decide +kernel
theorem dksX4_isInService_1 : cX4_isInService.data.toList.drop 22 = dktX4_isInService_1 := dk_seg dksX4_isInService_0 22 rfl rfl
theorem dX4_isInService_0 : decode cX4_isInService 0 = .ok (.aload_n 0, 1) := dk_42 (dk_at dksX4_isInService_0 0 rfl rfl)
theorem dX4_isInService_1 : decode cX4_isInService 1 = .ok (.iconst 0, 1) := dk_3 (dk_at dksX4_isInService_0 1 rfl rfl)
theorem dX4_isInService_2 : decode cX4_isInService 2 = .ok (.putfield 1, 3) := dk_181 0 1 (dk_at dksX4_isInService_0 2 rfl rfl)
theorem dX4_isInService_5 : decode cX4_isInService 5 = .ok (.aload_n 0, 1) := dk_42 (dk_at dksX4_isInService_0 5 rfl rfl)
theorem dX4_isInService_6 : decode cX4_isInService 6 = .ok (.iload_n 1, 1) := dk_27 (dk_at dksX4_isInService_0 6 rfl rfl)
theorem dX4_isInService_7 : decode cX4_isInService 7 = .ok (.invokevirtual 252, 3) := dk_182 0 252 (dk_at dksX4_isInService_0 7 rfl rfl)
theorem dX4_isInService_10 : decode cX4_isInService 10 = .ok (.ifCond .eq 15, 3) := dk_153 0 15 (dk_at dksX4_isInService_0 10 rfl rfl)
theorem dX4_isInService_13 : decode cX4_isInService 13 = .ok (.aload_n 0, 1) := dk_42 (dk_at dksX4_isInService_0 13 rfl rfl)
theorem dX4_isInService_14 : decode cX4_isInService 14 = .ok (.getfield 13, 3) := dk_180 0 13 (dk_at dksX4_isInService_0 14 rfl rfl)
theorem dX4_isInService_17 : decode cX4_isInService 17 = .ok (.bipush 121, 2) := dk_16 121 (dk_at dksX4_isInService_0 17 rfl rfl)
theorem dX4_isInService_19 : decode cX4_isInService 19 = .ok (.iload_n 1, 1) := dk_27 (dk_at dksX4_isInService_0 19 rfl rfl)
theorem dX4_isInService_20 : decode cX4_isInService 20 = .ok (.iadd, 1) := dk_96 (dk_at dksX4_isInService_0 20 rfl rfl)
theorem dX4_isInService_21 : decode cX4_isInService 21 = .ok (.iaload, 1) := dk_46 (dk_at dksX4_isInService_0 21 rfl rfl)
theorem dX4_isInService_22 : decode cX4_isInService 22 = .ok (.goto 4, 3) := dk_167 0 4 (dk_at dksX4_isInService_1 0 rfl rfl)
theorem dX4_isInService_25 : decode cX4_isInService 25 = .ok (.iconst (-1), 1) := dk_2 (dk_at dksX4_isInService_1 3 rfl rfl)
theorem dX4_isInService_26 : decode cX4_isInService 26 = .ok (.ireturn, 1) := dk_172 (dk_at dksX4_isInService_1 4 rfl rfl)
abbrev cX4_record : ByteArray := prog_21_method_43_code
def yX4_record : MethodName := ⟨RX4, "record", "(III)I"⟩
def dkwX4_record_6 : List UInt8 := [42, 180, 0, 13, 17, 0, 151, 27, 96, 92, 46, 4, 96, 79, 21, 4, 172]
abbrev dktX4_record_6 : List UInt8 := dkwX4_record_6 ++ []
def dkwX4_record_5 : List UInt8 := [104, 96, 21, 4, 96, 28, 79, 42, 180, 0, 13, 17, 1, 165, 16, 8, 27, 104, 96, 21, 4, 96, 29, 79]
abbrev dktX4_record_5 : List UInt8 := dkwX4_record_5 ++ dktX4_record_6
def dkwX4_record_4 : List UInt8 := [21, 4, 16, 8, 160, 0, 6, 16, 253, 172, 42, 182, 0, 249, 42, 180, 0, 13, 17, 0, 181, 16, 8, 27]
abbrev dktX4_record_4 : List UInt8 := dkwX4_record_4 ++ dktX4_record_5
def dkwX4_record_3 : List UInt8 := [16, 61, 27, 96, 46, 4, 160, 0, 6, 16, 254, 172, 42, 180, 0, 13, 17, 0, 151, 27, 96, 46, 54, 4]
abbrev dktX4_record_3 : List UInt8 := dkwX4_record_3 ++ dktX4_record_4
def dkwX4_record_2 : List UInt8 := [46, 163, 0, 17, 29, 133, 20, 0, 255, 20, 1, 1, 184, 0, 124, 154, 0, 5, 2, 172, 42, 180, 0, 13]
abbrev dktX4_record_2 : List UInt8 := dkwX4_record_2 ++ dktX4_record_3
def dkwX4_record_1 : List UInt8 := [133, 184, 0, 124, 153, 0, 38, 42, 28, 182, 0, 241, 42, 180, 0, 26, 42, 180, 0, 13, 4, 27, 96, 46]
abbrev dktX4_record_1 : List UInt8 := dkwX4_record_1 ++ dktX4_record_2
def dkwX4_record_0 : List UInt8 := [42, 3, 181, 0, 1, 42, 27, 182, 0, 252, 153, 0, 56, 28, 133, 9, 4, 42, 180, 0, 225, 120, 4, 100]
abbrev dktX4_record_0 : List UInt8 := dkwX4_record_0 ++ dktX4_record_1
theorem dksX4_record_0 : cX4_record.data.toList.drop 0 = dktX4_record_0 := by decide +kernel
theorem dksX4_record_1 : cX4_record.data.toList.drop 24 = dktX4_record_1 := dk_seg dksX4_record_0 24 rfl rfl
theorem dksX4_record_2 : cX4_record.data.toList.drop 48 = dktX4_record_2 := dk_seg dksX4_record_1 24 rfl rfl
theorem dksX4_record_3 : cX4_record.data.toList.drop 72 = dktX4_record_3 := dk_seg dksX4_record_2 24 rfl rfl
theorem dksX4_record_4 : cX4_record.data.toList.drop 96 = dktX4_record_4 := dk_seg dksX4_record_3 24 rfl rfl
theorem dksX4_record_5 : cX4_record.data.toList.drop 120 = dktX4_record_5 := dk_seg dksX4_record_4 24 rfl rfl
theorem dksX4_record_6 : cX4_record.data.toList.drop 144 = dktX4_record_6 := dk_seg dksX4_record_5 24 rfl rfl
theorem dX4_record_0 : decode cX4_record 0 = .ok (.aload_n 0, 1) := dk_42 (dk_at dksX4_record_0 0 rfl rfl)
theorem dX4_record_1 : decode cX4_record 1 = .ok (.iconst 0, 1) := dk_3 (dk_at dksX4_record_0 1 rfl rfl)
theorem dX4_record_2 : decode cX4_record 2 = .ok (.putfield 1, 3) := dk_181 0 1 (dk_at dksX4_record_0 2 rfl rfl)
theorem dX4_record_5 : decode cX4_record 5 = .ok (.aload_n 0, 1) := dk_42 (dk_at dksX4_record_0 5 rfl rfl)
theorem dX4_record_6 : decode cX4_record 6 = .ok (.iload_n 1, 1) := dk_27 (dk_at dksX4_record_0 6 rfl rfl)
theorem dX4_record_7 : decode cX4_record 7 = .ok (.invokevirtual 252, 3) := dk_182 0 252 (dk_at dksX4_record_0 7 rfl rfl)
theorem dX4_record_10 : decode cX4_record 10 = .ok (.ifCond .eq 56, 3) := dk_153 0 56 (dk_at dksX4_record_0 10 rfl rfl)
theorem dX4_record_13 : decode cX4_record 13 = .ok (.iload_n 2, 1) := dk_28 (dk_at dksX4_record_0 13 rfl rfl)
theorem dX4_record_14 : decode cX4_record 14 = .ok (.i2l, 1) := dk_133 (dk_at dksX4_record_0 14 rfl rfl)
theorem dX4_record_15 : decode cX4_record 15 = .ok (.lconst 0, 1) := dk_9 (dk_at dksX4_record_0 15 rfl rfl)
theorem dX4_record_16 : decode cX4_record 16 = .ok (.iconst 1, 1) := dk_4 (dk_at dksX4_record_0 16 rfl rfl)
theorem dX4_record_17 : decode cX4_record 17 = .ok (.aload_n 0, 1) := dk_42 (dk_at dksX4_record_0 17 rfl rfl)
theorem dX4_record_18 : decode cX4_record 18 = .ok (.getfield 225, 3) := dk_180 0 225 (dk_at dksX4_record_0 18 rfl rfl)
theorem dX4_record_21 : decode cX4_record 21 = .ok (.ishl, 1) := dk_120 (dk_at dksX4_record_0 21 rfl rfl)
theorem dX4_record_22 : decode cX4_record 22 = .ok (.iconst 1, 1) := dk_4 (dk_at dksX4_record_0 22 rfl rfl)
theorem dX4_record_23 : decode cX4_record 23 = .ok (.isub, 1) := dk_100 (dk_at dksX4_record_0 23 rfl rfl)
theorem dX4_record_24 : decode cX4_record 24 = .ok (.i2l, 1) := dk_133 (dk_at dksX4_record_1 0 rfl rfl)
theorem dX4_record_25 : decode cX4_record 25 = .ok (.invokestatic 124, 3) := dk_184 0 124 (dk_at dksX4_record_1 1 rfl rfl)
theorem dX4_record_28 : decode cX4_record 28 = .ok (.ifCond .eq 38, 3) := dk_153 0 38 (dk_at dksX4_record_1 4 rfl rfl)
theorem dX4_record_31 : decode cX4_record 31 = .ok (.aload_n 0, 1) := dk_42 (dk_at dksX4_record_1 7 rfl rfl)
theorem dX4_record_32 : decode cX4_record 32 = .ok (.iload_n 2, 1) := dk_28 (dk_at dksX4_record_1 8 rfl rfl)
theorem dX4_record_33 : decode cX4_record 33 = .ok (.invokevirtual 241, 3) := dk_182 0 241 (dk_at dksX4_record_1 9 rfl rfl)
theorem dX4_record_36 : decode cX4_record 36 = .ok (.aload_n 0, 1) := dk_42 (dk_at dksX4_record_1 12 rfl rfl)
theorem dX4_record_37 : decode cX4_record 37 = .ok (.getfield 26, 3) := dk_180 0 26 (dk_at dksX4_record_1 13 rfl rfl)
theorem dX4_record_40 : decode cX4_record 40 = .ok (.aload_n 0, 1) := dk_42 (dk_at dksX4_record_1 16 rfl rfl)
theorem dX4_record_41 : decode cX4_record 41 = .ok (.getfield 13, 3) := dk_180 0 13 (dk_at dksX4_record_1 17 rfl rfl)
theorem dX4_record_44 : decode cX4_record 44 = .ok (.iconst 1, 1) := dk_4 (dk_at dksX4_record_1 20 rfl rfl)
theorem dX4_record_45 : decode cX4_record 45 = .ok (.iload_n 1, 1) := dk_27 (dk_at dksX4_record_1 21 rfl rfl)
theorem dX4_record_46 : decode cX4_record 46 = .ok (.iadd, 1) := dk_96 (dk_at dksX4_record_1 22 rfl rfl)
theorem dX4_record_47 : decode cX4_record 47 = .ok (.iaload, 1) := dk_46 (dk_at dksX4_record_1 23 rfl rfl)
theorem dX4_record_48 : decode cX4_record 48 = .ok (.iaload, 1) := dk_46 (dk_at dksX4_record_2 0 rfl rfl)
theorem dX4_record_49 : decode cX4_record 49 = .ok (.if_icmp .gt 17, 3) := dk_163 0 17 (dk_at dksX4_record_2 1 rfl rfl)
theorem dX4_record_52 : decode cX4_record 52 = .ok (.iload_n 3, 1) := dk_29 (dk_at dksX4_record_2 4 rfl rfl)
theorem dX4_record_53 : decode cX4_record 53 = .ok (.i2l, 1) := dk_133 (dk_at dksX4_record_2 5 rfl rfl)
theorem dX4_record_54 : decode cX4_record 54 = .ok (.ldc2_w 255, 3) := dk_20 0 255 (dk_at dksX4_record_2 6 rfl rfl)
theorem dX4_record_57 : decode cX4_record 57 = .ok (.ldc2_w 257, 3) := dk_20 1 1 (dk_at dksX4_record_2 9 rfl rfl)
theorem dX4_record_60 : decode cX4_record 60 = .ok (.invokestatic 124, 3) := dk_184 0 124 (dk_at dksX4_record_2 12 rfl rfl)
theorem dX4_record_63 : decode cX4_record 63 = .ok (.ifCond .ne 5, 3) := dk_154 0 5 (dk_at dksX4_record_2 15 rfl rfl)
theorem dX4_record_66 : decode cX4_record 66 = .ok (.iconst (-1), 1) := dk_2 (dk_at dksX4_record_2 18 rfl rfl)
theorem dX4_record_67 : decode cX4_record 67 = .ok (.ireturn, 1) := dk_172 (dk_at dksX4_record_2 19 rfl rfl)
theorem dX4_record_68 : decode cX4_record 68 = .ok (.aload_n 0, 1) := dk_42 (dk_at dksX4_record_2 20 rfl rfl)
theorem dX4_record_69 : decode cX4_record 69 = .ok (.getfield 13, 3) := dk_180 0 13 (dk_at dksX4_record_2 21 rfl rfl)
theorem dX4_record_72 : decode cX4_record 72 = .ok (.bipush 61, 2) := dk_16 61 (dk_at dksX4_record_3 0 rfl rfl)
theorem dX4_record_74 : decode cX4_record 74 = .ok (.iload_n 1, 1) := dk_27 (dk_at dksX4_record_3 2 rfl rfl)
theorem dX4_record_75 : decode cX4_record 75 = .ok (.iadd, 1) := dk_96 (dk_at dksX4_record_3 3 rfl rfl)
theorem dX4_record_76 : decode cX4_record 76 = .ok (.iaload, 1) := dk_46 (dk_at dksX4_record_3 4 rfl rfl)
theorem dX4_record_77 : decode cX4_record 77 = .ok (.iconst 1, 1) := dk_4 (dk_at dksX4_record_3 5 rfl rfl)
theorem dX4_record_78 : decode cX4_record 78 = .ok (.if_icmp .ne 6, 3) := dk_160 0 6 (dk_at dksX4_record_3 6 rfl rfl)
theorem dX4_record_81 : decode cX4_record 81 = .ok (.bipush (-2), 2) := dk_16 254 (dk_at dksX4_record_3 9 rfl rfl)
theorem dX4_record_83 : decode cX4_record 83 = .ok (.ireturn, 1) := dk_172 (dk_at dksX4_record_3 11 rfl rfl)
theorem dX4_record_84 : decode cX4_record 84 = .ok (.aload_n 0, 1) := dk_42 (dk_at dksX4_record_3 12 rfl rfl)
theorem dX4_record_85 : decode cX4_record 85 = .ok (.getfield 13, 3) := dk_180 0 13 (dk_at dksX4_record_3 13 rfl rfl)
theorem dX4_record_88 : decode cX4_record 88 = .ok (.sipush 151, 3) := dk_17 0 151 (dk_at dksX4_record_3 16 rfl rfl)
theorem dX4_record_91 : decode cX4_record 91 = .ok (.iload_n 1, 1) := dk_27 (dk_at dksX4_record_3 19 rfl rfl)
theorem dX4_record_92 : decode cX4_record 92 = .ok (.iadd, 1) := dk_96 (dk_at dksX4_record_3 20 rfl rfl)
theorem dX4_record_93 : decode cX4_record 93 = .ok (.iaload, 1) := dk_46 (dk_at dksX4_record_3 21 rfl rfl)
theorem dX4_record_94 : decode cX4_record 94 = .ok (.istore 4, 2) := dk_54 4 (dk_at dksX4_record_3 22 rfl rfl)
theorem dX4_record_96 : decode cX4_record 96 = .ok (.iload 4, 2) := dk_21 4 (dk_at dksX4_record_4 0 rfl rfl)
theorem dX4_record_98 : decode cX4_record 98 = .ok (.bipush 8, 2) := dk_16 8 (dk_at dksX4_record_4 2 rfl rfl)
theorem dX4_record_100 : decode cX4_record 100 = .ok (.if_icmp .ne 6, 3) := dk_160 0 6 (dk_at dksX4_record_4 4 rfl rfl)
theorem dX4_record_103 : decode cX4_record 103 = .ok (.bipush (-3), 2) := dk_16 253 (dk_at dksX4_record_4 7 rfl rfl)
theorem dX4_record_105 : decode cX4_record 105 = .ok (.ireturn, 1) := dk_172 (dk_at dksX4_record_4 9 rfl rfl)
theorem dX4_record_106 : decode cX4_record 106 = .ok (.aload_n 0, 1) := dk_42 (dk_at dksX4_record_4 10 rfl rfl)
theorem dX4_record_107 : decode cX4_record 107 = .ok (.invokevirtual 249, 3) := dk_182 0 249 (dk_at dksX4_record_4 11 rfl rfl)
theorem dX4_record_110 : decode cX4_record 110 = .ok (.aload_n 0, 1) := dk_42 (dk_at dksX4_record_4 14 rfl rfl)
theorem dX4_record_111 : decode cX4_record 111 = .ok (.getfield 13, 3) := dk_180 0 13 (dk_at dksX4_record_4 15 rfl rfl)
theorem dX4_record_114 : decode cX4_record 114 = .ok (.sipush 181, 3) := dk_17 0 181 (dk_at dksX4_record_4 18 rfl rfl)
theorem dX4_record_117 : decode cX4_record 117 = .ok (.bipush 8, 2) := dk_16 8 (dk_at dksX4_record_4 21 rfl rfl)
theorem dX4_record_119 : decode cX4_record 119 = .ok (.iload_n 1, 1) := dk_27 (dk_at dksX4_record_4 23 rfl rfl)
theorem dX4_record_120 : decode cX4_record 120 = .ok (.imul, 1) := dk_104 (dk_at dksX4_record_5 0 rfl rfl)
theorem dX4_record_121 : decode cX4_record 121 = .ok (.iadd, 1) := dk_96 (dk_at dksX4_record_5 1 rfl rfl)
theorem dX4_record_122 : decode cX4_record 122 = .ok (.iload 4, 2) := dk_21 4 (dk_at dksX4_record_5 2 rfl rfl)
theorem dX4_record_124 : decode cX4_record 124 = .ok (.iadd, 1) := dk_96 (dk_at dksX4_record_5 4 rfl rfl)
theorem dX4_record_125 : decode cX4_record 125 = .ok (.iload_n 2, 1) := dk_28 (dk_at dksX4_record_5 5 rfl rfl)
theorem dX4_record_126 : decode cX4_record 126 = .ok (.iastore, 1) := dk_79 (dk_at dksX4_record_5 6 rfl rfl)
theorem dX4_record_127 : decode cX4_record 127 = .ok (.aload_n 0, 1) := dk_42 (dk_at dksX4_record_5 7 rfl rfl)
theorem dX4_record_128 : decode cX4_record 128 = .ok (.getfield 13, 3) := dk_180 0 13 (dk_at dksX4_record_5 8 rfl rfl)
theorem dX4_record_131 : decode cX4_record 131 = .ok (.sipush 421, 3) := dk_17 1 165 (dk_at dksX4_record_5 11 rfl rfl)
theorem dX4_record_134 : decode cX4_record 134 = .ok (.bipush 8, 2) := dk_16 8 (dk_at dksX4_record_5 14 rfl rfl)
theorem dX4_record_136 : decode cX4_record 136 = .ok (.iload_n 1, 1) := dk_27 (dk_at dksX4_record_5 16 rfl rfl)
theorem dX4_record_137 : decode cX4_record 137 = .ok (.imul, 1) := dk_104 (dk_at dksX4_record_5 17 rfl rfl)
theorem dX4_record_138 : decode cX4_record 138 = .ok (.iadd, 1) := dk_96 (dk_at dksX4_record_5 18 rfl rfl)
theorem dX4_record_139 : decode cX4_record 139 = .ok (.iload 4, 2) := dk_21 4 (dk_at dksX4_record_5 19 rfl rfl)
theorem dX4_record_141 : decode cX4_record 141 = .ok (.iadd, 1) := dk_96 (dk_at dksX4_record_5 21 rfl rfl)
theorem dX4_record_142 : decode cX4_record 142 = .ok (.iload_n 3, 1) := dk_29 (dk_at dksX4_record_5 22 rfl rfl)
theorem dX4_record_143 : decode cX4_record 143 = .ok (.iastore, 1) := dk_79 (dk_at dksX4_record_5 23 rfl rfl)
theorem dX4_record_144 : decode cX4_record 144 = .ok (.aload_n 0, 1) := dk_42 (dk_at dksX4_record_6 0 rfl rfl)
theorem dX4_record_145 : decode cX4_record 145 = .ok (.getfield 13, 3) := dk_180 0 13 (dk_at dksX4_record_6 1 rfl rfl)
theorem dX4_record_148 : decode cX4_record 148 = .ok (.sipush 151, 3) := dk_17 0 151 (dk_at dksX4_record_6 4 rfl rfl)
theorem dX4_record_151 : decode cX4_record 151 = .ok (.iload_n 1, 1) := dk_27 (dk_at dksX4_record_6 7 rfl rfl)
theorem dX4_record_152 : decode cX4_record 152 = .ok (.iadd, 1) := dk_96 (dk_at dksX4_record_6 8 rfl rfl)
theorem dX4_record_153 : decode cX4_record 153 = .ok (.dup2, 1) := dk_92 (dk_at dksX4_record_6 9 rfl rfl)
theorem dX4_record_154 : decode cX4_record 154 = .ok (.iaload, 1) := dk_46 (dk_at dksX4_record_6 10 rfl rfl)
theorem dX4_record_155 : decode cX4_record 155 = .ok (.iconst 1, 1) := dk_4 (dk_at dksX4_record_6 11 rfl rfl)
theorem dX4_record_156 : decode cX4_record 156 = .ok (.iadd, 1) := dk_96 (dk_at dksX4_record_6 12 rfl rfl)
theorem dX4_record_157 : decode cX4_record 157 = .ok (.iastore, 1) := dk_79 (dk_at dksX4_record_6 13 rfl rfl)
theorem dX4_record_158 : decode cX4_record 158 = .ok (.iload 4, 2) := dk_21 4 (dk_at dksX4_record_6 14 rfl rfl)
theorem dX4_record_160 : decode cX4_record 160 = .ok (.ireturn, 1) := dk_172 (dk_at dksX4_record_6 16 rfl rfl)
abbrev cX4_testCount : ByteArray := prog_21_method_44_code
def yX4_testCount : MethodName := ⟨RX4, "testCount", "(I)I"⟩
def dkwX4_testCount_1 : List UInt8 := [167, 0, 4, 2, 172]
abbrev dktX4_testCount_1 : List UInt8 := dkwX4_testCount_1 ++ []
def dkwX4_testCount_0 : List UInt8 := [42, 3, 181, 0, 1, 42, 27, 182, 0, 252, 153, 0, 16, 42, 180, 0, 13, 17, 0, 151, 27, 96, 46]
abbrev dktX4_testCount_0 : List UInt8 := dkwX4_testCount_0 ++ dktX4_testCount_1
theorem dksX4_testCount_0 : cX4_testCount.data.toList.drop 0 = dktX4_testCount_0 := by decide +kernel
theorem dksX4_testCount_1 : cX4_testCount.data.toList.drop 23 = dktX4_testCount_1 := dk_seg dksX4_testCount_0 23 rfl rfl
theorem dX4_testCount_0 : decode cX4_testCount 0 = .ok (.aload_n 0, 1) := dk_42 (dk_at dksX4_testCount_0 0 rfl rfl)
theorem dX4_testCount_1 : decode cX4_testCount 1 = .ok (.iconst 0, 1) := dk_3 (dk_at dksX4_testCount_0 1 rfl rfl)
theorem dX4_testCount_2 : decode cX4_testCount 2 = .ok (.putfield 1, 3) := dk_181 0 1 (dk_at dksX4_testCount_0 2 rfl rfl)
theorem dX4_testCount_5 : decode cX4_testCount 5 = .ok (.aload_n 0, 1) := dk_42 (dk_at dksX4_testCount_0 5 rfl rfl)
theorem dX4_testCount_6 : decode cX4_testCount 6 = .ok (.iload_n 1, 1) := dk_27 (dk_at dksX4_testCount_0 6 rfl rfl)
theorem dX4_testCount_7 : decode cX4_testCount 7 = .ok (.invokevirtual 252, 3) := dk_182 0 252 (dk_at dksX4_testCount_0 7 rfl rfl)
theorem dX4_testCount_10 : decode cX4_testCount 10 = .ok (.ifCond .eq 16, 3) := dk_153 0 16 (dk_at dksX4_testCount_0 10 rfl rfl)
theorem dX4_testCount_13 : decode cX4_testCount 13 = .ok (.aload_n 0, 1) := dk_42 (dk_at dksX4_testCount_0 13 rfl rfl)
theorem dX4_testCount_14 : decode cX4_testCount 14 = .ok (.getfield 13, 3) := dk_180 0 13 (dk_at dksX4_testCount_0 14 rfl rfl)
theorem dX4_testCount_17 : decode cX4_testCount 17 = .ok (.sipush 151, 3) := dk_17 0 151 (dk_at dksX4_testCount_0 17 rfl rfl)
theorem dX4_testCount_20 : decode cX4_testCount 20 = .ok (.iload_n 1, 1) := dk_27 (dk_at dksX4_testCount_0 20 rfl rfl)
theorem dX4_testCount_21 : decode cX4_testCount 21 = .ok (.iadd, 1) := dk_96 (dk_at dksX4_testCount_0 21 rfl rfl)
theorem dX4_testCount_22 : decode cX4_testCount 22 = .ok (.iaload, 1) := dk_46 (dk_at dksX4_testCount_0 22 rfl rfl)
theorem dX4_testCount_23 : decode cX4_testCount 23 = .ok (.goto 4, 3) := dk_167 0 4 (dk_at dksX4_testCount_1 0 rfl rfl)
theorem dX4_testCount_26 : decode cX4_testCount 26 = .ok (.iconst (-1), 1) := dk_2 (dk_at dksX4_testCount_1 3 rfl rfl)
theorem dX4_testCount_27 : decode cX4_testCount 27 = .ok (.ireturn, 1) := dk_172 (dk_at dksX4_testCount_1 4 rfl rfl)
abbrev cX4_testLoad : ByteArray := prog_21_method_49_code
def yX4_testLoad : MethodName := ⟨RX4, "testLoad", "(II)I"⟩
def dkwX4_testLoad_1 : List UInt8 := [158, 0, 7, 3, 167, 0, 9, 42, 27, 28, 182, 1, 3, 172]
abbrev dktX4_testLoad_1 : List UInt8 := dkwX4_testLoad_1 ++ []
def dkwX4_testLoad_0 : List UInt8 := [42, 42, 27, 28, 182, 1, 6, 153, 0, 7, 3, 167, 0, 4, 4, 181, 0, 1, 42, 180, 0, 1]
abbrev dktX4_testLoad_0 : List UInt8 := dkwX4_testLoad_0 ++ dktX4_testLoad_1
theorem dksX4_testLoad_0 : cX4_testLoad.data.toList.drop 0 = dktX4_testLoad_0 := by decide +kernel
theorem dksX4_testLoad_1 : cX4_testLoad.data.toList.drop 22 = dktX4_testLoad_1 := dk_seg dksX4_testLoad_0 22 rfl rfl
theorem dX4_testLoad_0 : decode cX4_testLoad 0 = .ok (.aload_n 0, 1) := dk_42 (dk_at dksX4_testLoad_0 0 rfl rfl)
theorem dX4_testLoad_1 : decode cX4_testLoad 1 = .ok (.aload_n 0, 1) := dk_42 (dk_at dksX4_testLoad_0 1 rfl rfl)
theorem dX4_testLoad_2 : decode cX4_testLoad 2 = .ok (.iload_n 1, 1) := dk_27 (dk_at dksX4_testLoad_0 2 rfl rfl)
theorem dX4_testLoad_3 : decode cX4_testLoad 3 = .ok (.iload_n 2, 1) := dk_28 (dk_at dksX4_testLoad_0 3 rfl rfl)
theorem dX4_testLoad_4 : decode cX4_testLoad 4 = .ok (.invokevirtual 262, 3) := dk_182 1 6 (dk_at dksX4_testLoad_0 4 rfl rfl)
theorem dX4_testLoad_7 : decode cX4_testLoad 7 = .ok (.ifCond .eq 7, 3) := dk_153 0 7 (dk_at dksX4_testLoad_0 7 rfl rfl)
theorem dX4_testLoad_10 : decode cX4_testLoad 10 = .ok (.iconst 0, 1) := dk_3 (dk_at dksX4_testLoad_0 10 rfl rfl)
theorem dX4_testLoad_11 : decode cX4_testLoad 11 = .ok (.goto 4, 3) := dk_167 0 4 (dk_at dksX4_testLoad_0 11 rfl rfl)
theorem dX4_testLoad_14 : decode cX4_testLoad 14 = .ok (.iconst 1, 1) := dk_4 (dk_at dksX4_testLoad_0 14 rfl rfl)
theorem dX4_testLoad_15 : decode cX4_testLoad 15 = .ok (.putfield 1, 3) := dk_181 0 1 (dk_at dksX4_testLoad_0 15 rfl rfl)
theorem dX4_testLoad_18 : decode cX4_testLoad 18 = .ok (.aload_n 0, 1) := dk_42 (dk_at dksX4_testLoad_0 18 rfl rfl)
theorem dX4_testLoad_19 : decode cX4_testLoad 19 = .ok (.getfield 1, 3) := dk_180 0 1 (dk_at dksX4_testLoad_0 19 rfl rfl)
theorem dX4_testLoad_22 : decode cX4_testLoad 22 = .ok (.ifCond .le 7, 3) := dk_158 0 7 (dk_at dksX4_testLoad_1 0 rfl rfl)
theorem dX4_testLoad_25 : decode cX4_testLoad 25 = .ok (.iconst 0, 1) := dk_3 (dk_at dksX4_testLoad_1 3 rfl rfl)
theorem dX4_testLoad_26 : decode cX4_testLoad 26 = .ok (.goto 9, 3) := dk_167 0 9 (dk_at dksX4_testLoad_1 4 rfl rfl)
theorem dX4_testLoad_29 : decode cX4_testLoad 29 = .ok (.aload_n 0, 1) := dk_42 (dk_at dksX4_testLoad_1 7 rfl rfl)
theorem dX4_testLoad_30 : decode cX4_testLoad 30 = .ok (.iload_n 1, 1) := dk_27 (dk_at dksX4_testLoad_1 8 rfl rfl)
theorem dX4_testLoad_31 : decode cX4_testLoad 31 = .ok (.iload_n 2, 1) := dk_28 (dk_at dksX4_testLoad_1 9 rfl rfl)
theorem dX4_testLoad_32 : decode cX4_testLoad 32 = .ok (.invokevirtual 259, 3) := dk_182 1 3 (dk_at dksX4_testLoad_1 10 rfl rfl)
theorem dX4_testLoad_35 : decode cX4_testLoad 35 = .ok (.ireturn, 1) := dk_172 (dk_at dksX4_testLoad_1 13 rfl rfl)
abbrev cX4_isTest : ByteArray := prog_21_method_45_code
def yX4_isTest : MethodName := ⟨RX4, "isTest", "(II)Z"⟩
def dkwX4_isTest_1 : List UInt8 := [184, 0, 124, 153, 0, 7, 4, 167, 0, 4, 3, 172]
abbrev dktX4_isTest_1 : List UInt8 := dkwX4_isTest_1 ++ []
def dkwX4_isTest_0 : List UInt8 := [42, 27, 182, 0, 252, 153, 0, 29, 28, 133, 9, 42, 180, 0, 13, 17, 0, 151, 27, 96, 46, 4, 100, 133]
abbrev dktX4_isTest_0 : List UInt8 := dkwX4_isTest_0 ++ dktX4_isTest_1
theorem dksX4_isTest_0 : cX4_isTest.data.toList.drop 0 = dktX4_isTest_0 := by decide +kernel
theorem dksX4_isTest_1 : cX4_isTest.data.toList.drop 24 = dktX4_isTest_1 := dk_seg dksX4_isTest_0 24 rfl rfl
theorem dX4_isTest_0 : decode cX4_isTest 0 = .ok (.aload_n 0, 1) := dk_42 (dk_at dksX4_isTest_0 0 rfl rfl)
theorem dX4_isTest_1 : decode cX4_isTest 1 = .ok (.iload_n 1, 1) := dk_27 (dk_at dksX4_isTest_0 1 rfl rfl)
theorem dX4_isTest_2 : decode cX4_isTest 2 = .ok (.invokevirtual 252, 3) := dk_182 0 252 (dk_at dksX4_isTest_0 2 rfl rfl)
theorem dX4_isTest_5 : decode cX4_isTest 5 = .ok (.ifCond .eq 29, 3) := dk_153 0 29 (dk_at dksX4_isTest_0 5 rfl rfl)
theorem dX4_isTest_8 : decode cX4_isTest 8 = .ok (.iload_n 2, 1) := dk_28 (dk_at dksX4_isTest_0 8 rfl rfl)
theorem dX4_isTest_9 : decode cX4_isTest 9 = .ok (.i2l, 1) := dk_133 (dk_at dksX4_isTest_0 9 rfl rfl)
theorem dX4_isTest_10 : decode cX4_isTest 10 = .ok (.lconst 0, 1) := dk_9 (dk_at dksX4_isTest_0 10 rfl rfl)
theorem dX4_isTest_11 : decode cX4_isTest 11 = .ok (.aload_n 0, 1) := dk_42 (dk_at dksX4_isTest_0 11 rfl rfl)
theorem dX4_isTest_12 : decode cX4_isTest 12 = .ok (.getfield 13, 3) := dk_180 0 13 (dk_at dksX4_isTest_0 12 rfl rfl)
theorem dX4_isTest_15 : decode cX4_isTest 15 = .ok (.sipush 151, 3) := dk_17 0 151 (dk_at dksX4_isTest_0 15 rfl rfl)
theorem dX4_isTest_18 : decode cX4_isTest 18 = .ok (.iload_n 1, 1) := dk_27 (dk_at dksX4_isTest_0 18 rfl rfl)
theorem dX4_isTest_19 : decode cX4_isTest 19 = .ok (.iadd, 1) := dk_96 (dk_at dksX4_isTest_0 19 rfl rfl)
theorem dX4_isTest_20 : decode cX4_isTest 20 = .ok (.iaload, 1) := dk_46 (dk_at dksX4_isTest_0 20 rfl rfl)
theorem dX4_isTest_21 : decode cX4_isTest 21 = .ok (.iconst 1, 1) := dk_4 (dk_at dksX4_isTest_0 21 rfl rfl)
theorem dX4_isTest_22 : decode cX4_isTest 22 = .ok (.isub, 1) := dk_100 (dk_at dksX4_isTest_0 22 rfl rfl)
theorem dX4_isTest_23 : decode cX4_isTest 23 = .ok (.i2l, 1) := dk_133 (dk_at dksX4_isTest_0 23 rfl rfl)
theorem dX4_isTest_24 : decode cX4_isTest 24 = .ok (.invokestatic 124, 3) := dk_184 0 124 (dk_at dksX4_isTest_1 0 rfl rfl)
theorem dX4_isTest_27 : decode cX4_isTest 27 = .ok (.ifCond .eq 7, 3) := dk_153 0 7 (dk_at dksX4_isTest_1 3 rfl rfl)
theorem dX4_isTest_30 : decode cX4_isTest 30 = .ok (.iconst 1, 1) := dk_4 (dk_at dksX4_isTest_1 6 rfl rfl)
theorem dX4_isTest_31 : decode cX4_isTest 31 = .ok (.goto 4, 3) := dk_167 0 4 (dk_at dksX4_isTest_1 7 rfl rfl)
theorem dX4_isTest_34 : decode cX4_isTest 34 = .ok (.iconst 0, 1) := dk_3 (dk_at dksX4_isTest_1 10 rfl rfl)
theorem dX4_isTest_35 : decode cX4_isTest 35 = .ok (.ireturn, 1) := dk_172 (dk_at dksX4_isTest_1 11 rfl rfl)
abbrev cX4_loadOf : ByteArray := prog_21_method_46_code
def yX4_loadOf : MethodName := ⟨RX4, "loadOf", "(II)I"⟩
def dkwX4_loadOf_0 : List UInt8 := [42, 42, 180, 0, 13, 17, 0, 181, 16, 8, 27, 104, 96, 28, 96, 46, 182, 0, 241, 172]
abbrev dktX4_loadOf_0 : List UInt8 := dkwX4_loadOf_0 ++ []
theorem dksX4_loadOf_0 : cX4_loadOf.data.toList.drop 0 = dktX4_loadOf_0 := by decide +kernel
theorem dX4_loadOf_0 : decode cX4_loadOf 0 = .ok (.aload_n 0, 1) := dk_42 (dk_at dksX4_loadOf_0 0 rfl rfl)
theorem dX4_loadOf_1 : decode cX4_loadOf 1 = .ok (.aload_n 0, 1) := dk_42 (dk_at dksX4_loadOf_0 1 rfl rfl)
theorem dX4_loadOf_2 : decode cX4_loadOf 2 = .ok (.getfield 13, 3) := dk_180 0 13 (dk_at dksX4_loadOf_0 2 rfl rfl)
theorem dX4_loadOf_5 : decode cX4_loadOf 5 = .ok (.sipush 181, 3) := dk_17 0 181 (dk_at dksX4_loadOf_0 5 rfl rfl)
theorem dX4_loadOf_8 : decode cX4_loadOf 8 = .ok (.bipush 8, 2) := dk_16 8 (dk_at dksX4_loadOf_0 8 rfl rfl)
theorem dX4_loadOf_10 : decode cX4_loadOf 10 = .ok (.iload_n 1, 1) := dk_27 (dk_at dksX4_loadOf_0 10 rfl rfl)
theorem dX4_loadOf_11 : decode cX4_loadOf 11 = .ok (.imul, 1) := dk_104 (dk_at dksX4_loadOf_0 11 rfl rfl)
theorem dX4_loadOf_12 : decode cX4_loadOf 12 = .ok (.iadd, 1) := dk_96 (dk_at dksX4_loadOf_0 12 rfl rfl)
theorem dX4_loadOf_13 : decode cX4_loadOf 13 = .ok (.iload_n 2, 1) := dk_28 (dk_at dksX4_loadOf_0 13 rfl rfl)
theorem dX4_loadOf_14 : decode cX4_loadOf 14 = .ok (.iadd, 1) := dk_96 (dk_at dksX4_loadOf_0 14 rfl rfl)
theorem dX4_loadOf_15 : decode cX4_loadOf 15 = .ok (.iaload, 1) := dk_46 (dk_at dksX4_loadOf_0 15 rfl rfl)
theorem dX4_loadOf_16 : decode cX4_loadOf 16 = .ok (.invokevirtual 241, 3) := dk_182 0 241 (dk_at dksX4_loadOf_0 16 rfl rfl)
theorem dX4_loadOf_19 : decode cX4_loadOf 19 = .ok (.ireturn, 1) := dk_172 (dk_at dksX4_loadOf_0 19 rfl rfl)
abbrev cX4_testError : ByteArray := prog_21_method_50_code
def yX4_testError : MethodName := ⟨RX4, "testError", "(II)I"⟩
def dkwX4_testError_1 : List UInt8 := [158, 0, 7, 3, 167, 0, 9, 42, 27, 28, 182, 1, 9, 172]
abbrev dktX4_testError_1 : List UInt8 := dkwX4_testError_1 ++ []
def dkwX4_testError_0 : List UInt8 := [42, 42, 27, 28, 182, 1, 6, 153, 0, 7, 3, 167, 0, 4, 4, 181, 0, 1, 42, 180, 0, 1]
abbrev dktX4_testError_0 : List UInt8 := dkwX4_testError_0 ++ dktX4_testError_1
theorem dksX4_testError_0 : cX4_testError.data.toList.drop 0 = dktX4_testError_0 := by decide +kernel
theorem dksX4_testError_1 : cX4_testError.data.toList.drop 22 = dktX4_testError_1 := dk_seg dksX4_testError_0 22 rfl rfl
theorem dX4_testError_0 : decode cX4_testError 0 = .ok (.aload_n 0, 1) := dk_42 (dk_at dksX4_testError_0 0 rfl rfl)
theorem dX4_testError_1 : decode cX4_testError 1 = .ok (.aload_n 0, 1) := dk_42 (dk_at dksX4_testError_0 1 rfl rfl)
theorem dX4_testError_2 : decode cX4_testError 2 = .ok (.iload_n 1, 1) := dk_27 (dk_at dksX4_testError_0 2 rfl rfl)
theorem dX4_testError_3 : decode cX4_testError 3 = .ok (.iload_n 2, 1) := dk_28 (dk_at dksX4_testError_0 3 rfl rfl)
theorem dX4_testError_4 : decode cX4_testError 4 = .ok (.invokevirtual 262, 3) := dk_182 1 6 (dk_at dksX4_testError_0 4 rfl rfl)
theorem dX4_testError_7 : decode cX4_testError 7 = .ok (.ifCond .eq 7, 3) := dk_153 0 7 (dk_at dksX4_testError_0 7 rfl rfl)
theorem dX4_testError_10 : decode cX4_testError 10 = .ok (.iconst 0, 1) := dk_3 (dk_at dksX4_testError_0 10 rfl rfl)
theorem dX4_testError_11 : decode cX4_testError 11 = .ok (.goto 4, 3) := dk_167 0 4 (dk_at dksX4_testError_0 11 rfl rfl)
theorem dX4_testError_14 : decode cX4_testError 14 = .ok (.iconst 1, 1) := dk_4 (dk_at dksX4_testError_0 14 rfl rfl)
theorem dX4_testError_15 : decode cX4_testError 15 = .ok (.putfield 1, 3) := dk_181 0 1 (dk_at dksX4_testError_0 15 rfl rfl)
theorem dX4_testError_18 : decode cX4_testError 18 = .ok (.aload_n 0, 1) := dk_42 (dk_at dksX4_testError_0 18 rfl rfl)
theorem dX4_testError_19 : decode cX4_testError 19 = .ok (.getfield 1, 3) := dk_180 0 1 (dk_at dksX4_testError_0 19 rfl rfl)
theorem dX4_testError_22 : decode cX4_testError 22 = .ok (.ifCond .le 7, 3) := dk_158 0 7 (dk_at dksX4_testError_1 0 rfl rfl)
theorem dX4_testError_25 : decode cX4_testError 25 = .ok (.iconst 0, 1) := dk_3 (dk_at dksX4_testError_1 3 rfl rfl)
theorem dX4_testError_26 : decode cX4_testError 26 = .ok (.goto 9, 3) := dk_167 0 9 (dk_at dksX4_testError_1 4 rfl rfl)
theorem dX4_testError_29 : decode cX4_testError 29 = .ok (.aload_n 0, 1) := dk_42 (dk_at dksX4_testError_1 7 rfl rfl)
theorem dX4_testError_30 : decode cX4_testError 30 = .ok (.iload_n 1, 1) := dk_27 (dk_at dksX4_testError_1 8 rfl rfl)
theorem dX4_testError_31 : decode cX4_testError 31 = .ok (.iload_n 2, 1) := dk_28 (dk_at dksX4_testError_1 9 rfl rfl)
theorem dX4_testError_32 : decode cX4_testError 32 = .ok (.invokevirtual 265, 3) := dk_182 1 9 (dk_at dksX4_testError_1 10 rfl rfl)
theorem dX4_testError_35 : decode cX4_testError 35 = .ok (.ireturn, 1) := dk_172 (dk_at dksX4_testError_1 13 rfl rfl)
abbrev cX4_errorOf : ByteArray := prog_21_method_47_code
def yX4_errorOf : MethodName := ⟨RX4, "errorOf", "(II)I"⟩
def dkwX4_errorOf_0 : List UInt8 := [42, 180, 0, 13, 17, 1, 165, 16, 8, 27, 104, 96, 28, 96, 46, 42, 27, 28, 182, 1, 3, 100, 172]
abbrev dktX4_errorOf_0 : List UInt8 := dkwX4_errorOf_0 ++ []
theorem dksX4_errorOf_0 : cX4_errorOf.data.toList.drop 0 = dktX4_errorOf_0 := by decide +kernel
theorem dX4_errorOf_0 : decode cX4_errorOf 0 = .ok (.aload_n 0, 1) := dk_42 (dk_at dksX4_errorOf_0 0 rfl rfl)
theorem dX4_errorOf_1 : decode cX4_errorOf 1 = .ok (.getfield 13, 3) := dk_180 0 13 (dk_at dksX4_errorOf_0 1 rfl rfl)
theorem dX4_errorOf_4 : decode cX4_errorOf 4 = .ok (.sipush 421, 3) := dk_17 1 165 (dk_at dksX4_errorOf_0 4 rfl rfl)
theorem dX4_errorOf_7 : decode cX4_errorOf 7 = .ok (.bipush 8, 2) := dk_16 8 (dk_at dksX4_errorOf_0 7 rfl rfl)
theorem dX4_errorOf_9 : decode cX4_errorOf 9 = .ok (.iload_n 1, 1) := dk_27 (dk_at dksX4_errorOf_0 9 rfl rfl)
theorem dX4_errorOf_10 : decode cX4_errorOf 10 = .ok (.imul, 1) := dk_104 (dk_at dksX4_errorOf_0 10 rfl rfl)
theorem dX4_errorOf_11 : decode cX4_errorOf 11 = .ok (.iadd, 1) := dk_96 (dk_at dksX4_errorOf_0 11 rfl rfl)
theorem dX4_errorOf_12 : decode cX4_errorOf 12 = .ok (.iload_n 2, 1) := dk_28 (dk_at dksX4_errorOf_0 12 rfl rfl)
theorem dX4_errorOf_13 : decode cX4_errorOf 13 = .ok (.iadd, 1) := dk_96 (dk_at dksX4_errorOf_0 13 rfl rfl)
theorem dX4_errorOf_14 : decode cX4_errorOf 14 = .ok (.iaload, 1) := dk_46 (dk_at dksX4_errorOf_0 14 rfl rfl)
theorem dX4_errorOf_15 : decode cX4_errorOf 15 = .ok (.aload_n 0, 1) := dk_42 (dk_at dksX4_errorOf_0 15 rfl rfl)
theorem dX4_errorOf_16 : decode cX4_errorOf 16 = .ok (.iload_n 1, 1) := dk_27 (dk_at dksX4_errorOf_0 16 rfl rfl)
theorem dX4_errorOf_17 : decode cX4_errorOf 17 = .ok (.iload_n 2, 1) := dk_28 (dk_at dksX4_errorOf_0 17 rfl rfl)
theorem dX4_errorOf_18 : decode cX4_errorOf 18 = .ok (.invokevirtual 259, 3) := dk_182 1 3 (dk_at dksX4_errorOf_0 18 rfl rfl)
theorem dX4_errorOf_21 : decode cX4_errorOf 21 = .ok (.isub, 1) := dk_100 (dk_at dksX4_errorOf_0 21 rfl rfl)
theorem dX4_errorOf_22 : decode cX4_errorOf 22 = .ok (.ireturn, 1) := dk_172 (dk_at dksX4_errorOf_0 22 rfl rfl)
abbrev cX4_testPasses : ByteArray := prog_21_method_51_code
def yX4_testPasses : MethodName := ⟨RX4, "testPasses", "(II)Z"⟩
def dkwX4_testPasses_2 : List UInt8 := [167, 0, 4, 3, 172]
abbrev dktX4_testPasses_2 : List UInt8 := dkwX4_testPasses_2 ++ []
def dkwX4_testPasses_1 : List UInt8 := [154, 0, 25, 42, 27, 28, 182, 1, 9, 184, 1, 12, 42, 27, 28, 182, 1, 15, 163, 0, 7, 4]
abbrev dktX4_testPasses_1 : List UInt8 := dkwX4_testPasses_1 ++ dktX4_testPasses_2
def dkwX4_testPasses_0 : List UInt8 := [42, 42, 27, 28, 182, 1, 6, 153, 0, 7, 3, 167, 0, 4, 4, 181, 0, 1, 42, 180, 0, 1]
abbrev dktX4_testPasses_0 : List UInt8 := dkwX4_testPasses_0 ++ dktX4_testPasses_1
theorem dksX4_testPasses_0 : cX4_testPasses.data.toList.drop 0 = dktX4_testPasses_0 := by decide +kernel
theorem dksX4_testPasses_1 : cX4_testPasses.data.toList.drop 22 = dktX4_testPasses_1 := dk_seg dksX4_testPasses_0 22 rfl rfl
theorem dksX4_testPasses_2 : cX4_testPasses.data.toList.drop 44 = dktX4_testPasses_2 := dk_seg dksX4_testPasses_1 22 rfl rfl
theorem dX4_testPasses_0 : decode cX4_testPasses 0 = .ok (.aload_n 0, 1) := dk_42 (dk_at dksX4_testPasses_0 0 rfl rfl)
theorem dX4_testPasses_1 : decode cX4_testPasses 1 = .ok (.aload_n 0, 1) := dk_42 (dk_at dksX4_testPasses_0 1 rfl rfl)
theorem dX4_testPasses_2 : decode cX4_testPasses 2 = .ok (.iload_n 1, 1) := dk_27 (dk_at dksX4_testPasses_0 2 rfl rfl)
theorem dX4_testPasses_3 : decode cX4_testPasses 3 = .ok (.iload_n 2, 1) := dk_28 (dk_at dksX4_testPasses_0 3 rfl rfl)
theorem dX4_testPasses_4 : decode cX4_testPasses 4 = .ok (.invokevirtual 262, 3) := dk_182 1 6 (dk_at dksX4_testPasses_0 4 rfl rfl)
theorem dX4_testPasses_7 : decode cX4_testPasses 7 = .ok (.ifCond .eq 7, 3) := dk_153 0 7 (dk_at dksX4_testPasses_0 7 rfl rfl)
theorem dX4_testPasses_10 : decode cX4_testPasses 10 = .ok (.iconst 0, 1) := dk_3 (dk_at dksX4_testPasses_0 10 rfl rfl)
theorem dX4_testPasses_11 : decode cX4_testPasses 11 = .ok (.goto 4, 3) := dk_167 0 4 (dk_at dksX4_testPasses_0 11 rfl rfl)
theorem dX4_testPasses_14 : decode cX4_testPasses 14 = .ok (.iconst 1, 1) := dk_4 (dk_at dksX4_testPasses_0 14 rfl rfl)
theorem dX4_testPasses_15 : decode cX4_testPasses 15 = .ok (.putfield 1, 3) := dk_181 0 1 (dk_at dksX4_testPasses_0 15 rfl rfl)
theorem dX4_testPasses_18 : decode cX4_testPasses 18 = .ok (.aload_n 0, 1) := dk_42 (dk_at dksX4_testPasses_0 18 rfl rfl)
theorem dX4_testPasses_19 : decode cX4_testPasses 19 = .ok (.getfield 1, 3) := dk_180 0 1 (dk_at dksX4_testPasses_0 19 rfl rfl)
theorem dX4_testPasses_22 : decode cX4_testPasses 22 = .ok (.ifCond .ne 25, 3) := dk_154 0 25 (dk_at dksX4_testPasses_1 0 rfl rfl)
theorem dX4_testPasses_25 : decode cX4_testPasses 25 = .ok (.aload_n 0, 1) := dk_42 (dk_at dksX4_testPasses_1 3 rfl rfl)
theorem dX4_testPasses_26 : decode cX4_testPasses 26 = .ok (.iload_n 1, 1) := dk_27 (dk_at dksX4_testPasses_1 4 rfl rfl)
theorem dX4_testPasses_27 : decode cX4_testPasses 27 = .ok (.iload_n 2, 1) := dk_28 (dk_at dksX4_testPasses_1 5 rfl rfl)
theorem dX4_testPasses_28 : decode cX4_testPasses 28 = .ok (.invokevirtual 265, 3) := dk_182 1 9 (dk_at dksX4_testPasses_1 6 rfl rfl)
theorem dX4_testPasses_31 : decode cX4_testPasses 31 = .ok (.invokestatic 268, 3) := dk_184 1 12 (dk_at dksX4_testPasses_1 9 rfl rfl)
theorem dX4_testPasses_34 : decode cX4_testPasses 34 = .ok (.aload_n 0, 1) := dk_42 (dk_at dksX4_testPasses_1 12 rfl rfl)
theorem dX4_testPasses_35 : decode cX4_testPasses 35 = .ok (.iload_n 1, 1) := dk_27 (dk_at dksX4_testPasses_1 13 rfl rfl)
theorem dX4_testPasses_36 : decode cX4_testPasses 36 = .ok (.iload_n 2, 1) := dk_28 (dk_at dksX4_testPasses_1 14 rfl rfl)
theorem dX4_testPasses_37 : decode cX4_testPasses 37 = .ok (.invokevirtual 271, 3) := dk_182 1 15 (dk_at dksX4_testPasses_1 15 rfl rfl)
theorem dX4_testPasses_40 : decode cX4_testPasses 40 = .ok (.if_icmp .gt 7, 3) := dk_163 0 7 (dk_at dksX4_testPasses_1 18 rfl rfl)
theorem dX4_testPasses_43 : decode cX4_testPasses 43 = .ok (.iconst 1, 1) := dk_4 (dk_at dksX4_testPasses_1 21 rfl rfl)
theorem dX4_testPasses_44 : decode cX4_testPasses 44 = .ok (.goto 4, 3) := dk_167 0 4 (dk_at dksX4_testPasses_2 0 rfl rfl)
theorem dX4_testPasses_47 : decode cX4_testPasses 47 = .ok (.iconst 0, 1) := dk_3 (dk_at dksX4_testPasses_2 3 rfl rfl)
theorem dX4_testPasses_48 : decode cX4_testPasses 48 = .ok (.ireturn, 1) := dk_172 (dk_at dksX4_testPasses_2 4 rfl rfl)
abbrev cX4_size : ByteArray := prog_21_method_4_code
def yX4_size : MethodName := ⟨RX4, "size", "(I)I"⟩
def dkwX4_size_0 : List UInt8 := [26, 156, 0, 8, 26, 116, 167, 0, 4, 26, 172]
abbrev dktX4_size_0 : List UInt8 := dkwX4_size_0 ++ []
theorem dksX4_size_0 : cX4_size.data.toList.drop 0 = dktX4_size_0 := by decide +kernel
theorem dX4_size_0 : decode cX4_size 0 = .ok (.iload_n 0, 1) := dk_26 (dk_at dksX4_size_0 0 rfl rfl)
theorem dX4_size_1 : decode cX4_size 1 = .ok (.ifCond .ge 8, 3) := dk_156 0 8 (dk_at dksX4_size_0 1 rfl rfl)
theorem dX4_size_4 : decode cX4_size 4 = .ok (.iload_n 0, 1) := dk_26 (dk_at dksX4_size_0 4 rfl rfl)
theorem dX4_size_5 : decode cX4_size 5 = .ok (.ineg, 1) := dk_116 (dk_at dksX4_size_0 5 rfl rfl)
theorem dX4_size_6 : decode cX4_size 6 = .ok (.goto 4, 3) := dk_167 0 4 (dk_at dksX4_size_0 6 rfl rfl)
theorem dX4_size_9 : decode cX4_size 9 = .ok (.iload_n 0, 1) := dk_26 (dk_at dksX4_size_0 9 rfl rfl)
theorem dX4_size_10 : decode cX4_size 10 = .ok (.ireturn, 1) := dk_172 (dk_at dksX4_size_0 10 rfl rfl)
abbrev cX4_toleranceOf : ByteArray := prog_21_method_48_code
def yX4_toleranceOf : MethodName := ⟨RX4, "toleranceOf", "(II)I"⟩
def dkwX4_toleranceOf_1 : List UInt8 := [16, 121, 27, 96, 46, 96, 104, 172]
abbrev dktX4_toleranceOf_1 : List UInt8 := dkwX4_toleranceOf_1 ++ []
def dkwX4_toleranceOf_0 : List UInt8 := [42, 42, 180, 0, 13, 4, 27, 96, 46, 42, 27, 28, 182, 1, 3, 182, 0, 237, 4, 42, 180, 0, 13]
abbrev dktX4_toleranceOf_0 : List UInt8 := dkwX4_toleranceOf_0 ++ dktX4_toleranceOf_1
theorem dksX4_toleranceOf_0 : cX4_toleranceOf.data.toList.drop 0 = dktX4_toleranceOf_0 := by decide +kernel
theorem dksX4_toleranceOf_1 : cX4_toleranceOf.data.toList.drop 23 = dktX4_toleranceOf_1 := dk_seg dksX4_toleranceOf_0 23 rfl rfl
theorem dX4_toleranceOf_0 : decode cX4_toleranceOf 0 = .ok (.aload_n 0, 1) := dk_42 (dk_at dksX4_toleranceOf_0 0 rfl rfl)
theorem dX4_toleranceOf_1 : decode cX4_toleranceOf 1 = .ok (.aload_n 0, 1) := dk_42 (dk_at dksX4_toleranceOf_0 1 rfl rfl)
theorem dX4_toleranceOf_2 : decode cX4_toleranceOf 2 = .ok (.getfield 13, 3) := dk_180 0 13 (dk_at dksX4_toleranceOf_0 2 rfl rfl)
theorem dX4_toleranceOf_5 : decode cX4_toleranceOf 5 = .ok (.iconst 1, 1) := dk_4 (dk_at dksX4_toleranceOf_0 5 rfl rfl)
theorem dX4_toleranceOf_6 : decode cX4_toleranceOf 6 = .ok (.iload_n 1, 1) := dk_27 (dk_at dksX4_toleranceOf_0 6 rfl rfl)
theorem dX4_toleranceOf_7 : decode cX4_toleranceOf 7 = .ok (.iadd, 1) := dk_96 (dk_at dksX4_toleranceOf_0 7 rfl rfl)
theorem dX4_toleranceOf_8 : decode cX4_toleranceOf 8 = .ok (.iaload, 1) := dk_46 (dk_at dksX4_toleranceOf_0 8 rfl rfl)
theorem dX4_toleranceOf_9 : decode cX4_toleranceOf 9 = .ok (.aload_n 0, 1) := dk_42 (dk_at dksX4_toleranceOf_0 9 rfl rfl)
theorem dX4_toleranceOf_10 : decode cX4_toleranceOf 10 = .ok (.iload_n 1, 1) := dk_27 (dk_at dksX4_toleranceOf_0 10 rfl rfl)
theorem dX4_toleranceOf_11 : decode cX4_toleranceOf 11 = .ok (.iload_n 2, 1) := dk_28 (dk_at dksX4_toleranceOf_0 11 rfl rfl)
theorem dX4_toleranceOf_12 : decode cX4_toleranceOf 12 = .ok (.invokevirtual 259, 3) := dk_182 1 3 (dk_at dksX4_toleranceOf_0 12 rfl rfl)
theorem dX4_toleranceOf_15 : decode cX4_toleranceOf 15 = .ok (.invokevirtual 237, 3) := dk_182 0 237 (dk_at dksX4_toleranceOf_0 15 rfl rfl)
theorem dX4_toleranceOf_18 : decode cX4_toleranceOf 18 = .ok (.iconst 1, 1) := dk_4 (dk_at dksX4_toleranceOf_0 18 rfl rfl)
theorem dX4_toleranceOf_19 : decode cX4_toleranceOf 19 = .ok (.aload_n 0, 1) := dk_42 (dk_at dksX4_toleranceOf_0 19 rfl rfl)
theorem dX4_toleranceOf_20 : decode cX4_toleranceOf 20 = .ok (.getfield 13, 3) := dk_180 0 13 (dk_at dksX4_toleranceOf_0 20 rfl rfl)
theorem dX4_toleranceOf_23 : decode cX4_toleranceOf 23 = .ok (.bipush 121, 2) := dk_16 121 (dk_at dksX4_toleranceOf_1 0 rfl rfl)
theorem dX4_toleranceOf_25 : decode cX4_toleranceOf 25 = .ok (.iload_n 1, 1) := dk_27 (dk_at dksX4_toleranceOf_1 2 rfl rfl)
theorem dX4_toleranceOf_26 : decode cX4_toleranceOf 26 = .ok (.iadd, 1) := dk_96 (dk_at dksX4_toleranceOf_1 3 rfl rfl)
theorem dX4_toleranceOf_27 : decode cX4_toleranceOf 27 = .ok (.iaload, 1) := dk_46 (dk_at dksX4_toleranceOf_1 4 rfl rfl)
theorem dX4_toleranceOf_28 : decode cX4_toleranceOf 28 = .ok (.iadd, 1) := dk_96 (dk_at dksX4_toleranceOf_1 5 rfl rfl)
theorem dX4_toleranceOf_29 : decode cX4_toleranceOf 29 = .ok (.imul, 1) := dk_104 (dk_at dksX4_toleranceOf_1 6 rfl rfl)
theorem dX4_toleranceOf_30 : decode cX4_toleranceOf 30 = .ok (.ireturn, 1) := dk_172 (dk_at dksX4_toleranceOf_1 7 rfl rfl)
abbrev cX4_verdict : ByteArray := prog_21_method_53_code
def yX4_verdict : MethodName := ⟨RX4, "verdict", "(I)I"⟩
def dkwX4_verdict_0 : List UInt8 := [42, 3, 181, 0, 1, 42, 27, 182, 0, 252, 153, 0, 12, 42, 27, 3, 182, 1, 18, 167, 0, 4, 2, 172]
abbrev dktX4_verdict_0 : List UInt8 := dkwX4_verdict_0 ++ []
theorem dksX4_verdict_0 : cX4_verdict.data.toList.drop 0 = dktX4_verdict_0 := by decide +kernel
theorem dX4_verdict_0 : decode cX4_verdict 0 = .ok (.aload_n 0, 1) := dk_42 (dk_at dksX4_verdict_0 0 rfl rfl)
theorem dX4_verdict_1 : decode cX4_verdict 1 = .ok (.iconst 0, 1) := dk_3 (dk_at dksX4_verdict_0 1 rfl rfl)
theorem dX4_verdict_2 : decode cX4_verdict 2 = .ok (.putfield 1, 3) := dk_181 0 1 (dk_at dksX4_verdict_0 2 rfl rfl)
theorem dX4_verdict_5 : decode cX4_verdict 5 = .ok (.aload_n 0, 1) := dk_42 (dk_at dksX4_verdict_0 5 rfl rfl)
theorem dX4_verdict_6 : decode cX4_verdict 6 = .ok (.iload_n 1, 1) := dk_27 (dk_at dksX4_verdict_0 6 rfl rfl)
theorem dX4_verdict_7 : decode cX4_verdict 7 = .ok (.invokevirtual 252, 3) := dk_182 0 252 (dk_at dksX4_verdict_0 7 rfl rfl)
theorem dX4_verdict_10 : decode cX4_verdict 10 = .ok (.ifCond .eq 12, 3) := dk_153 0 12 (dk_at dksX4_verdict_0 10 rfl rfl)
theorem dX4_verdict_13 : decode cX4_verdict 13 = .ok (.aload_n 0, 1) := dk_42 (dk_at dksX4_verdict_0 13 rfl rfl)
theorem dX4_verdict_14 : decode cX4_verdict 14 = .ok (.iload_n 1, 1) := dk_27 (dk_at dksX4_verdict_0 14 rfl rfl)
theorem dX4_verdict_15 : decode cX4_verdict 15 = .ok (.iconst 0, 1) := dk_3 (dk_at dksX4_verdict_0 15 rfl rfl)
theorem dX4_verdict_16 : decode cX4_verdict 16 = .ok (.invokevirtual 274, 3) := dk_182 1 18 (dk_at dksX4_verdict_0 16 rfl rfl)
theorem dX4_verdict_19 : decode cX4_verdict 19 = .ok (.goto 4, 3) := dk_167 0 4 (dk_at dksX4_verdict_0 19 rfl rfl)
theorem dX4_verdict_22 : decode cX4_verdict 22 = .ok (.iconst (-1), 1) := dk_2 (dk_at dksX4_verdict_0 22 rfl rfl)
theorem dX4_verdict_23 : decode cX4_verdict 23 = .ok (.ireturn, 1) := dk_172 (dk_at dksX4_verdict_0 23 rfl rfl)
abbrev cX4_verdictOf : ByteArray := prog_21_method_52_code
def yX4_verdictOf : MethodName := ⟨RX4, "verdictOf", "(II)I"⟩
def dkwX4_verdictOf_11 : List UInt8 := [167, 0, 22, 21, 6, 154, 0, 7, 7, 167, 0, 13, 21, 7, 154, 0, 7, 8, 167, 0, 4, 3, 172]
abbrev dktX4_verdictOf_11 : List UInt8 := dkwX4_verdictOf_11 ++ []
def dkwX4_verdictOf_10 : List UInt8 := [154, 0, 7, 4, 167, 0, 40, 21, 4, 154, 0, 7, 5, 167, 0, 31, 21, 5, 154, 0, 7, 6]
abbrev dktX4_verdictOf_10 : List UInt8 := dkwX4_verdictOf_10 ++ dktX4_verdictOf_11
def dkwX4_verdictOf_9 : List UInt8 := [163, 0, 7, 4, 167, 0, 4, 3, 54, 7, 132, 10, 1, 167, 255, 168, 132, 8, 1, 167, 255, 40, 29]
abbrev dktX4_verdictOf_9 : List UInt8 := dkwX4_verdictOf_9 ++ dktX4_verdictOf_10
def dkwX4_verdictOf_8 : List UInt8 := [21, 8, 182, 1, 9, 42, 27, 21, 10, 182, 1, 9, 100, 184, 1, 12, 42, 27, 21, 8, 182, 1, 15]
abbrev dktX4_verdictOf_8 : List UInt8 := dkwX4_verdictOf_8 ++ dktX4_verdictOf_9
def dkwX4_verdictOf_7 : List UInt8 := [21, 5, 154, 0, 8, 21, 9, 153, 0, 7, 4, 167, 0, 4, 3, 54, 5, 21, 7, 153, 0, 35, 42, 27]
abbrev dktX4_verdictOf_7 : List UInt8 := dkwX4_verdictOf_7 ++ dktX4_verdictOf_8
def dkwX4_verdictOf_6 : List UInt8 := [162, 0, 87, 42, 180, 0, 13, 17, 0, 181, 16, 8, 27, 104, 96, 21, 10, 96, 46, 21, 9, 160, 0, 60]
abbrev dktX4_verdictOf_6 : List UInt8 := dkwX4_verdictOf_6 ++ dktX4_verdictOf_7
def dkwX4_verdictOf_5 : List UInt8 := [42, 27, 21, 8, 182, 1, 15, 163, 0, 7, 4, 167, 0, 4, 3, 54, 6, 3, 54, 10, 21, 10, 21, 8]
abbrev dktX4_verdictOf_5 : List UInt8 := dkwX4_verdictOf_5 ++ dktX4_verdictOf_6
def dkwX4_verdictOf_4 : List UInt8 := [4, 167, 0, 4, 3, 54, 4, 21, 6, 153, 0, 29, 42, 27, 21, 8, 182, 1, 9, 28, 100, 184, 1, 12]
abbrev dktX4_verdictOf_4 : List UInt8 := dkwX4_verdictOf_4 ++ dktX4_verdictOf_5
def dkwX4_verdictOf_3 : List UInt8 := [42, 27, 21, 8, 182, 1, 3, 104, 42, 180, 0, 26, 42, 180, 0, 13, 4, 27, 96, 46, 46, 161, 0, 7]
abbrev dktX4_verdictOf_3 : List UInt8 := dkwX4_verdictOf_3 ++ dktX4_verdictOf_4
def dkwX4_verdictOf_2 : List UInt8 := [46, 54, 9, 29, 154, 0, 8, 21, 9, 154, 0, 7, 4, 167, 0, 4, 3, 62, 21, 4, 154, 0, 28, 5]
abbrev dktX4_verdictOf_2 : List UInt8 := dkwX4_verdictOf_2 ++ dktX4_verdictOf_3
def dkwX4_verdictOf_1 : List UInt8 := [17, 0, 151, 27, 96, 46, 162, 0, 207, 42, 180, 0, 13, 17, 0, 181, 16, 8, 27, 104, 96, 21, 8, 96]
abbrev dktX4_verdictOf_1 : List UInt8 := dkwX4_verdictOf_1 ++ dktX4_verdictOf_2
def dkwX4_verdictOf_0 : List UInt8 := [3, 62, 3, 54, 4, 3, 54, 5, 4, 54, 6, 4, 54, 7, 3, 54, 8, 21, 8, 42, 180, 0, 13]
abbrev dktX4_verdictOf_0 : List UInt8 := dkwX4_verdictOf_0 ++ dktX4_verdictOf_1
theorem dksX4_verdictOf_0 : cX4_verdictOf.data.toList.drop 0 = dktX4_verdictOf_0 := by decide +kernel
theorem dksX4_verdictOf_1 : cX4_verdictOf.data.toList.drop 23 = dktX4_verdictOf_1 := dk_seg dksX4_verdictOf_0 23 rfl rfl
theorem dksX4_verdictOf_2 : cX4_verdictOf.data.toList.drop 47 = dktX4_verdictOf_2 := dk_seg dksX4_verdictOf_1 24 rfl rfl
theorem dksX4_verdictOf_3 : cX4_verdictOf.data.toList.drop 71 = dktX4_verdictOf_3 := dk_seg dksX4_verdictOf_2 24 rfl rfl
theorem dksX4_verdictOf_4 : cX4_verdictOf.data.toList.drop 95 = dktX4_verdictOf_4 := dk_seg dksX4_verdictOf_3 24 rfl rfl
theorem dksX4_verdictOf_5 : cX4_verdictOf.data.toList.drop 119 = dktX4_verdictOf_5 := dk_seg dksX4_verdictOf_4 24 rfl rfl
theorem dksX4_verdictOf_6 : cX4_verdictOf.data.toList.drop 143 = dktX4_verdictOf_6 := dk_seg dksX4_verdictOf_5 24 rfl rfl
theorem dksX4_verdictOf_7 : cX4_verdictOf.data.toList.drop 167 = dktX4_verdictOf_7 := dk_seg dksX4_verdictOf_6 24 rfl rfl
theorem dksX4_verdictOf_8 : cX4_verdictOf.data.toList.drop 191 = dktX4_verdictOf_8 := dk_seg dksX4_verdictOf_7 24 rfl rfl
theorem dksX4_verdictOf_9 : cX4_verdictOf.data.toList.drop 214 = dktX4_verdictOf_9 := dk_seg dksX4_verdictOf_8 23 rfl rfl
theorem dksX4_verdictOf_10 : cX4_verdictOf.data.toList.drop 237 = dktX4_verdictOf_10 := dk_seg dksX4_verdictOf_9 23 rfl rfl
theorem dksX4_verdictOf_11 : cX4_verdictOf.data.toList.drop 259 = dktX4_verdictOf_11 := dk_seg dksX4_verdictOf_10 22 rfl rfl
theorem dX4_verdictOf_0 : decode cX4_verdictOf 0 = .ok (.iconst 0, 1) := dk_3 (dk_at dksX4_verdictOf_0 0 rfl rfl)
theorem dX4_verdictOf_1 : decode cX4_verdictOf 1 = .ok (.istore_n 3, 1) := dk_62 (dk_at dksX4_verdictOf_0 1 rfl rfl)
theorem dX4_verdictOf_2 : decode cX4_verdictOf 2 = .ok (.iconst 0, 1) := dk_3 (dk_at dksX4_verdictOf_0 2 rfl rfl)
theorem dX4_verdictOf_3 : decode cX4_verdictOf 3 = .ok (.istore 4, 2) := dk_54 4 (dk_at dksX4_verdictOf_0 3 rfl rfl)
theorem dX4_verdictOf_5 : decode cX4_verdictOf 5 = .ok (.iconst 0, 1) := dk_3 (dk_at dksX4_verdictOf_0 5 rfl rfl)
theorem dX4_verdictOf_6 : decode cX4_verdictOf 6 = .ok (.istore 5, 2) := dk_54 5 (dk_at dksX4_verdictOf_0 6 rfl rfl)
theorem dX4_verdictOf_8 : decode cX4_verdictOf 8 = .ok (.iconst 1, 1) := dk_4 (dk_at dksX4_verdictOf_0 8 rfl rfl)
theorem dX4_verdictOf_9 : decode cX4_verdictOf 9 = .ok (.istore 6, 2) := dk_54 6 (dk_at dksX4_verdictOf_0 9 rfl rfl)
theorem dX4_verdictOf_11 : decode cX4_verdictOf 11 = .ok (.iconst 1, 1) := dk_4 (dk_at dksX4_verdictOf_0 11 rfl rfl)
theorem dX4_verdictOf_12 : decode cX4_verdictOf 12 = .ok (.istore 7, 2) := dk_54 7 (dk_at dksX4_verdictOf_0 12 rfl rfl)
theorem dX4_verdictOf_14 : decode cX4_verdictOf 14 = .ok (.iconst 0, 1) := dk_3 (dk_at dksX4_verdictOf_0 14 rfl rfl)
theorem dX4_verdictOf_15 : decode cX4_verdictOf 15 = .ok (.istore 8, 2) := dk_54 8 (dk_at dksX4_verdictOf_0 15 rfl rfl)
theorem dX4_verdictOf_17 : decode cX4_verdictOf 17 = .ok (.iload 8, 2) := dk_21 8 (dk_at dksX4_verdictOf_0 17 rfl rfl)
theorem dX4_verdictOf_19 : decode cX4_verdictOf 19 = .ok (.aload_n 0, 1) := dk_42 (dk_at dksX4_verdictOf_0 19 rfl rfl)
theorem dX4_verdictOf_20 : decode cX4_verdictOf 20 = .ok (.getfield 13, 3) := dk_180 0 13 (dk_at dksX4_verdictOf_0 20 rfl rfl)
theorem dX4_verdictOf_23 : decode cX4_verdictOf 23 = .ok (.sipush 151, 3) := dk_17 0 151 (dk_at dksX4_verdictOf_1 0 rfl rfl)
theorem dX4_verdictOf_26 : decode cX4_verdictOf 26 = .ok (.iload_n 1, 1) := dk_27 (dk_at dksX4_verdictOf_1 3 rfl rfl)
theorem dX4_verdictOf_27 : decode cX4_verdictOf 27 = .ok (.iadd, 1) := dk_96 (dk_at dksX4_verdictOf_1 4 rfl rfl)
theorem dX4_verdictOf_28 : decode cX4_verdictOf 28 = .ok (.iaload, 1) := dk_46 (dk_at dksX4_verdictOf_1 5 rfl rfl)
theorem dX4_verdictOf_29 : decode cX4_verdictOf 29 = .ok (.if_icmp .ge 207, 3) := dk_162 0 207 (dk_at dksX4_verdictOf_1 6 rfl rfl)
theorem dX4_verdictOf_32 : decode cX4_verdictOf 32 = .ok (.aload_n 0, 1) := dk_42 (dk_at dksX4_verdictOf_1 9 rfl rfl)
theorem dX4_verdictOf_33 : decode cX4_verdictOf 33 = .ok (.getfield 13, 3) := dk_180 0 13 (dk_at dksX4_verdictOf_1 10 rfl rfl)
theorem dX4_verdictOf_36 : decode cX4_verdictOf 36 = .ok (.sipush 181, 3) := dk_17 0 181 (dk_at dksX4_verdictOf_1 13 rfl rfl)
theorem dX4_verdictOf_39 : decode cX4_verdictOf 39 = .ok (.bipush 8, 2) := dk_16 8 (dk_at dksX4_verdictOf_1 16 rfl rfl)
theorem dX4_verdictOf_41 : decode cX4_verdictOf 41 = .ok (.iload_n 1, 1) := dk_27 (dk_at dksX4_verdictOf_1 18 rfl rfl)
theorem dX4_verdictOf_42 : decode cX4_verdictOf 42 = .ok (.imul, 1) := dk_104 (dk_at dksX4_verdictOf_1 19 rfl rfl)
theorem dX4_verdictOf_43 : decode cX4_verdictOf 43 = .ok (.iadd, 1) := dk_96 (dk_at dksX4_verdictOf_1 20 rfl rfl)
theorem dX4_verdictOf_44 : decode cX4_verdictOf 44 = .ok (.iload 8, 2) := dk_21 8 (dk_at dksX4_verdictOf_1 21 rfl rfl)
theorem dX4_verdictOf_46 : decode cX4_verdictOf 46 = .ok (.iadd, 1) := dk_96 (dk_at dksX4_verdictOf_1 23 rfl rfl)
theorem dX4_verdictOf_47 : decode cX4_verdictOf 47 = .ok (.iaload, 1) := dk_46 (dk_at dksX4_verdictOf_2 0 rfl rfl)
theorem dX4_verdictOf_48 : decode cX4_verdictOf 48 = .ok (.istore 9, 2) := dk_54 9 (dk_at dksX4_verdictOf_2 1 rfl rfl)
theorem dX4_verdictOf_50 : decode cX4_verdictOf 50 = .ok (.iload_n 3, 1) := dk_29 (dk_at dksX4_verdictOf_2 3 rfl rfl)
theorem dX4_verdictOf_51 : decode cX4_verdictOf 51 = .ok (.ifCond .ne 8, 3) := dk_154 0 8 (dk_at dksX4_verdictOf_2 4 rfl rfl)
theorem dX4_verdictOf_54 : decode cX4_verdictOf 54 = .ok (.iload 9, 2) := dk_21 9 (dk_at dksX4_verdictOf_2 7 rfl rfl)
theorem dX4_verdictOf_56 : decode cX4_verdictOf 56 = .ok (.ifCond .ne 7, 3) := dk_154 0 7 (dk_at dksX4_verdictOf_2 9 rfl rfl)
theorem dX4_verdictOf_59 : decode cX4_verdictOf 59 = .ok (.iconst 1, 1) := dk_4 (dk_at dksX4_verdictOf_2 12 rfl rfl)
theorem dX4_verdictOf_60 : decode cX4_verdictOf 60 = .ok (.goto 4, 3) := dk_167 0 4 (dk_at dksX4_verdictOf_2 13 rfl rfl)
theorem dX4_verdictOf_63 : decode cX4_verdictOf 63 = .ok (.iconst 0, 1) := dk_3 (dk_at dksX4_verdictOf_2 16 rfl rfl)
theorem dX4_verdictOf_64 : decode cX4_verdictOf 64 = .ok (.istore_n 3, 1) := dk_62 (dk_at dksX4_verdictOf_2 17 rfl rfl)
theorem dX4_verdictOf_65 : decode cX4_verdictOf 65 = .ok (.iload 4, 2) := dk_21 4 (dk_at dksX4_verdictOf_2 18 rfl rfl)
theorem dX4_verdictOf_67 : decode cX4_verdictOf 67 = .ok (.ifCond .ne 28, 3) := dk_154 0 28 (dk_at dksX4_verdictOf_2 20 rfl rfl)
theorem dX4_verdictOf_70 : decode cX4_verdictOf 70 = .ok (.iconst 2, 1) := dk_5 (dk_at dksX4_verdictOf_2 23 rfl rfl)
theorem dX4_verdictOf_71 : decode cX4_verdictOf 71 = .ok (.aload_n 0, 1) := dk_42 (dk_at dksX4_verdictOf_3 0 rfl rfl)
theorem dX4_verdictOf_72 : decode cX4_verdictOf 72 = .ok (.iload_n 1, 1) := dk_27 (dk_at dksX4_verdictOf_3 1 rfl rfl)
theorem dX4_verdictOf_73 : decode cX4_verdictOf 73 = .ok (.iload 8, 2) := dk_21 8 (dk_at dksX4_verdictOf_3 2 rfl rfl)
theorem dX4_verdictOf_75 : decode cX4_verdictOf 75 = .ok (.invokevirtual 259, 3) := dk_182 1 3 (dk_at dksX4_verdictOf_3 4 rfl rfl)
theorem dX4_verdictOf_78 : decode cX4_verdictOf 78 = .ok (.imul, 1) := dk_104 (dk_at dksX4_verdictOf_3 7 rfl rfl)
theorem dX4_verdictOf_79 : decode cX4_verdictOf 79 = .ok (.aload_n 0, 1) := dk_42 (dk_at dksX4_verdictOf_3 8 rfl rfl)
theorem dX4_verdictOf_80 : decode cX4_verdictOf 80 = .ok (.getfield 26, 3) := dk_180 0 26 (dk_at dksX4_verdictOf_3 9 rfl rfl)
theorem dX4_verdictOf_83 : decode cX4_verdictOf 83 = .ok (.aload_n 0, 1) := dk_42 (dk_at dksX4_verdictOf_3 12 rfl rfl)
theorem dX4_verdictOf_84 : decode cX4_verdictOf 84 = .ok (.getfield 13, 3) := dk_180 0 13 (dk_at dksX4_verdictOf_3 13 rfl rfl)
theorem dX4_verdictOf_87 : decode cX4_verdictOf 87 = .ok (.iconst 1, 1) := dk_4 (dk_at dksX4_verdictOf_3 16 rfl rfl)
theorem dX4_verdictOf_88 : decode cX4_verdictOf 88 = .ok (.iload_n 1, 1) := dk_27 (dk_at dksX4_verdictOf_3 17 rfl rfl)
theorem dX4_verdictOf_89 : decode cX4_verdictOf 89 = .ok (.iadd, 1) := dk_96 (dk_at dksX4_verdictOf_3 18 rfl rfl)
theorem dX4_verdictOf_90 : decode cX4_verdictOf 90 = .ok (.iaload, 1) := dk_46 (dk_at dksX4_verdictOf_3 19 rfl rfl)
theorem dX4_verdictOf_91 : decode cX4_verdictOf 91 = .ok (.iaload, 1) := dk_46 (dk_at dksX4_verdictOf_3 20 rfl rfl)
theorem dX4_verdictOf_92 : decode cX4_verdictOf 92 = .ok (.if_icmp .lt 7, 3) := dk_161 0 7 (dk_at dksX4_verdictOf_3 21 rfl rfl)
theorem dX4_verdictOf_95 : decode cX4_verdictOf 95 = .ok (.iconst 1, 1) := dk_4 (dk_at dksX4_verdictOf_4 0 rfl rfl)
theorem dX4_verdictOf_96 : decode cX4_verdictOf 96 = .ok (.goto 4, 3) := dk_167 0 4 (dk_at dksX4_verdictOf_4 1 rfl rfl)
theorem dX4_verdictOf_99 : decode cX4_verdictOf 99 = .ok (.iconst 0, 1) := dk_3 (dk_at dksX4_verdictOf_4 4 rfl rfl)
theorem dX4_verdictOf_100 : decode cX4_verdictOf 100 = .ok (.istore 4, 2) := dk_54 4 (dk_at dksX4_verdictOf_4 5 rfl rfl)
theorem dX4_verdictOf_102 : decode cX4_verdictOf 102 = .ok (.iload 6, 2) := dk_21 6 (dk_at dksX4_verdictOf_4 7 rfl rfl)
theorem dX4_verdictOf_104 : decode cX4_verdictOf 104 = .ok (.ifCond .eq 29, 3) := dk_153 0 29 (dk_at dksX4_verdictOf_4 9 rfl rfl)
theorem dX4_verdictOf_107 : decode cX4_verdictOf 107 = .ok (.aload_n 0, 1) := dk_42 (dk_at dksX4_verdictOf_4 12 rfl rfl)
theorem dX4_verdictOf_108 : decode cX4_verdictOf 108 = .ok (.iload_n 1, 1) := dk_27 (dk_at dksX4_verdictOf_4 13 rfl rfl)
theorem dX4_verdictOf_109 : decode cX4_verdictOf 109 = .ok (.iload 8, 2) := dk_21 8 (dk_at dksX4_verdictOf_4 14 rfl rfl)
theorem dX4_verdictOf_111 : decode cX4_verdictOf 111 = .ok (.invokevirtual 265, 3) := dk_182 1 9 (dk_at dksX4_verdictOf_4 16 rfl rfl)
theorem dX4_verdictOf_114 : decode cX4_verdictOf 114 = .ok (.iload_n 2, 1) := dk_28 (dk_at dksX4_verdictOf_4 19 rfl rfl)
theorem dX4_verdictOf_115 : decode cX4_verdictOf 115 = .ok (.isub, 1) := dk_100 (dk_at dksX4_verdictOf_4 20 rfl rfl)
theorem dX4_verdictOf_116 : decode cX4_verdictOf 116 = .ok (.invokestatic 268, 3) := dk_184 1 12 (dk_at dksX4_verdictOf_4 21 rfl rfl)
theorem dX4_verdictOf_119 : decode cX4_verdictOf 119 = .ok (.aload_n 0, 1) := dk_42 (dk_at dksX4_verdictOf_5 0 rfl rfl)
theorem dX4_verdictOf_120 : decode cX4_verdictOf 120 = .ok (.iload_n 1, 1) := dk_27 (dk_at dksX4_verdictOf_5 1 rfl rfl)
theorem dX4_verdictOf_121 : decode cX4_verdictOf 121 = .ok (.iload 8, 2) := dk_21 8 (dk_at dksX4_verdictOf_5 2 rfl rfl)
theorem dX4_verdictOf_123 : decode cX4_verdictOf 123 = .ok (.invokevirtual 271, 3) := dk_182 1 15 (dk_at dksX4_verdictOf_5 4 rfl rfl)
theorem dX4_verdictOf_126 : decode cX4_verdictOf 126 = .ok (.if_icmp .gt 7, 3) := dk_163 0 7 (dk_at dksX4_verdictOf_5 7 rfl rfl)
theorem dX4_verdictOf_129 : decode cX4_verdictOf 129 = .ok (.iconst 1, 1) := dk_4 (dk_at dksX4_verdictOf_5 10 rfl rfl)
theorem dX4_verdictOf_130 : decode cX4_verdictOf 130 = .ok (.goto 4, 3) := dk_167 0 4 (dk_at dksX4_verdictOf_5 11 rfl rfl)
theorem dX4_verdictOf_133 : decode cX4_verdictOf 133 = .ok (.iconst 0, 1) := dk_3 (dk_at dksX4_verdictOf_5 14 rfl rfl)
theorem dX4_verdictOf_134 : decode cX4_verdictOf 134 = .ok (.istore 6, 2) := dk_54 6 (dk_at dksX4_verdictOf_5 15 rfl rfl)
theorem dX4_verdictOf_136 : decode cX4_verdictOf 136 = .ok (.iconst 0, 1) := dk_3 (dk_at dksX4_verdictOf_5 17 rfl rfl)
theorem dX4_verdictOf_137 : decode cX4_verdictOf 137 = .ok (.istore 10, 2) := dk_54 10 (dk_at dksX4_verdictOf_5 18 rfl rfl)
theorem dX4_verdictOf_139 : decode cX4_verdictOf 139 = .ok (.iload 10, 2) := dk_21 10 (dk_at dksX4_verdictOf_5 20 rfl rfl)
theorem dX4_verdictOf_141 : decode cX4_verdictOf 141 = .ok (.iload 8, 2) := dk_21 8 (dk_at dksX4_verdictOf_5 22 rfl rfl)
theorem dX4_verdictOf_143 : decode cX4_verdictOf 143 = .ok (.if_icmp .ge 87, 3) := dk_162 0 87 (dk_at dksX4_verdictOf_6 0 rfl rfl)
theorem dX4_verdictOf_146 : decode cX4_verdictOf 146 = .ok (.aload_n 0, 1) := dk_42 (dk_at dksX4_verdictOf_6 3 rfl rfl)
theorem dX4_verdictOf_147 : decode cX4_verdictOf 147 = .ok (.getfield 13, 3) := dk_180 0 13 (dk_at dksX4_verdictOf_6 4 rfl rfl)
theorem dX4_verdictOf_150 : decode cX4_verdictOf 150 = .ok (.sipush 181, 3) := dk_17 0 181 (dk_at dksX4_verdictOf_6 7 rfl rfl)
theorem dX4_verdictOf_153 : decode cX4_verdictOf 153 = .ok (.bipush 8, 2) := dk_16 8 (dk_at dksX4_verdictOf_6 10 rfl rfl)
theorem dX4_verdictOf_155 : decode cX4_verdictOf 155 = .ok (.iload_n 1, 1) := dk_27 (dk_at dksX4_verdictOf_6 12 rfl rfl)
theorem dX4_verdictOf_156 : decode cX4_verdictOf 156 = .ok (.imul, 1) := dk_104 (dk_at dksX4_verdictOf_6 13 rfl rfl)
theorem dX4_verdictOf_157 : decode cX4_verdictOf 157 = .ok (.iadd, 1) := dk_96 (dk_at dksX4_verdictOf_6 14 rfl rfl)
theorem dX4_verdictOf_158 : decode cX4_verdictOf 158 = .ok (.iload 10, 2) := dk_21 10 (dk_at dksX4_verdictOf_6 15 rfl rfl)
theorem dX4_verdictOf_160 : decode cX4_verdictOf 160 = .ok (.iadd, 1) := dk_96 (dk_at dksX4_verdictOf_6 17 rfl rfl)
theorem dX4_verdictOf_161 : decode cX4_verdictOf 161 = .ok (.iaload, 1) := dk_46 (dk_at dksX4_verdictOf_6 18 rfl rfl)
theorem dX4_verdictOf_162 : decode cX4_verdictOf 162 = .ok (.iload 9, 2) := dk_21 9 (dk_at dksX4_verdictOf_6 19 rfl rfl)
theorem dX4_verdictOf_164 : decode cX4_verdictOf 164 = .ok (.if_icmp .ne 60, 3) := dk_160 0 60 (dk_at dksX4_verdictOf_6 21 rfl rfl)
theorem dX4_verdictOf_167 : decode cX4_verdictOf 167 = .ok (.iload 5, 2) := dk_21 5 (dk_at dksX4_verdictOf_7 0 rfl rfl)
theorem dX4_verdictOf_169 : decode cX4_verdictOf 169 = .ok (.ifCond .ne 8, 3) := dk_154 0 8 (dk_at dksX4_verdictOf_7 2 rfl rfl)
theorem dX4_verdictOf_172 : decode cX4_verdictOf 172 = .ok (.iload 9, 2) := dk_21 9 (dk_at dksX4_verdictOf_7 5 rfl rfl)
theorem dX4_verdictOf_174 : decode cX4_verdictOf 174 = .ok (.ifCond .eq 7, 3) := dk_153 0 7 (dk_at dksX4_verdictOf_7 7 rfl rfl)
theorem dX4_verdictOf_177 : decode cX4_verdictOf 177 = .ok (.iconst 1, 1) := dk_4 (dk_at dksX4_verdictOf_7 10 rfl rfl)
theorem dX4_verdictOf_178 : decode cX4_verdictOf 178 = .ok (.goto 4, 3) := dk_167 0 4 (dk_at dksX4_verdictOf_7 11 rfl rfl)
theorem dX4_verdictOf_181 : decode cX4_verdictOf 181 = .ok (.iconst 0, 1) := dk_3 (dk_at dksX4_verdictOf_7 14 rfl rfl)
theorem dX4_verdictOf_182 : decode cX4_verdictOf 182 = .ok (.istore 5, 2) := dk_54 5 (dk_at dksX4_verdictOf_7 15 rfl rfl)
theorem dX4_verdictOf_184 : decode cX4_verdictOf 184 = .ok (.iload 7, 2) := dk_21 7 (dk_at dksX4_verdictOf_7 17 rfl rfl)
theorem dX4_verdictOf_186 : decode cX4_verdictOf 186 = .ok (.ifCond .eq 35, 3) := dk_153 0 35 (dk_at dksX4_verdictOf_7 19 rfl rfl)
theorem dX4_verdictOf_189 : decode cX4_verdictOf 189 = .ok (.aload_n 0, 1) := dk_42 (dk_at dksX4_verdictOf_7 22 rfl rfl)
theorem dX4_verdictOf_190 : decode cX4_verdictOf 190 = .ok (.iload_n 1, 1) := dk_27 (dk_at dksX4_verdictOf_7 23 rfl rfl)
theorem dX4_verdictOf_191 : decode cX4_verdictOf 191 = .ok (.iload 8, 2) := dk_21 8 (dk_at dksX4_verdictOf_8 0 rfl rfl)
theorem dX4_verdictOf_193 : decode cX4_verdictOf 193 = .ok (.invokevirtual 265, 3) := dk_182 1 9 (dk_at dksX4_verdictOf_8 2 rfl rfl)
theorem dX4_verdictOf_196 : decode cX4_verdictOf 196 = .ok (.aload_n 0, 1) := dk_42 (dk_at dksX4_verdictOf_8 5 rfl rfl)
theorem dX4_verdictOf_197 : decode cX4_verdictOf 197 = .ok (.iload_n 1, 1) := dk_27 (dk_at dksX4_verdictOf_8 6 rfl rfl)
theorem dX4_verdictOf_198 : decode cX4_verdictOf 198 = .ok (.iload 10, 2) := dk_21 10 (dk_at dksX4_verdictOf_8 7 rfl rfl)
theorem dX4_verdictOf_200 : decode cX4_verdictOf 200 = .ok (.invokevirtual 265, 3) := dk_182 1 9 (dk_at dksX4_verdictOf_8 9 rfl rfl)
theorem dX4_verdictOf_203 : decode cX4_verdictOf 203 = .ok (.isub, 1) := dk_100 (dk_at dksX4_verdictOf_8 12 rfl rfl)
theorem dX4_verdictOf_204 : decode cX4_verdictOf 204 = .ok (.invokestatic 268, 3) := dk_184 1 12 (dk_at dksX4_verdictOf_8 13 rfl rfl)
theorem dX4_verdictOf_207 : decode cX4_verdictOf 207 = .ok (.aload_n 0, 1) := dk_42 (dk_at dksX4_verdictOf_8 16 rfl rfl)
theorem dX4_verdictOf_208 : decode cX4_verdictOf 208 = .ok (.iload_n 1, 1) := dk_27 (dk_at dksX4_verdictOf_8 17 rfl rfl)
theorem dX4_verdictOf_209 : decode cX4_verdictOf 209 = .ok (.iload 8, 2) := dk_21 8 (dk_at dksX4_verdictOf_8 18 rfl rfl)
theorem dX4_verdictOf_211 : decode cX4_verdictOf 211 = .ok (.invokevirtual 271, 3) := dk_182 1 15 (dk_at dksX4_verdictOf_8 20 rfl rfl)
theorem dX4_verdictOf_214 : decode cX4_verdictOf 214 = .ok (.if_icmp .gt 7, 3) := dk_163 0 7 (dk_at dksX4_verdictOf_9 0 rfl rfl)
theorem dX4_verdictOf_217 : decode cX4_verdictOf 217 = .ok (.iconst 1, 1) := dk_4 (dk_at dksX4_verdictOf_9 3 rfl rfl)
theorem dX4_verdictOf_218 : decode cX4_verdictOf 218 = .ok (.goto 4, 3) := dk_167 0 4 (dk_at dksX4_verdictOf_9 4 rfl rfl)
theorem dX4_verdictOf_221 : decode cX4_verdictOf 221 = .ok (.iconst 0, 1) := dk_3 (dk_at dksX4_verdictOf_9 7 rfl rfl)
theorem dX4_verdictOf_222 : decode cX4_verdictOf 222 = .ok (.istore 7, 2) := dk_54 7 (dk_at dksX4_verdictOf_9 8 rfl rfl)
theorem dX4_verdictOf_224 : decode cX4_verdictOf 224 = .ok (.iinc 10 1, 3) := dk_132 10 1 (dk_at dksX4_verdictOf_9 10 rfl rfl)
theorem dX4_verdictOf_227 : decode cX4_verdictOf 227 = .ok (.goto (-88), 3) := dk_167 255 168 (dk_at dksX4_verdictOf_9 13 rfl rfl)
theorem dX4_verdictOf_230 : decode cX4_verdictOf 230 = .ok (.iinc 8 1, 3) := dk_132 8 1 (dk_at dksX4_verdictOf_9 16 rfl rfl)
theorem dX4_verdictOf_233 : decode cX4_verdictOf 233 = .ok (.goto (-216), 3) := dk_167 255 40 (dk_at dksX4_verdictOf_9 19 rfl rfl)
theorem dX4_verdictOf_236 : decode cX4_verdictOf 236 = .ok (.iload_n 3, 1) := dk_29 (dk_at dksX4_verdictOf_9 22 rfl rfl)
theorem dX4_verdictOf_237 : decode cX4_verdictOf 237 = .ok (.ifCond .ne 7, 3) := dk_154 0 7 (dk_at dksX4_verdictOf_10 0 rfl rfl)
theorem dX4_verdictOf_240 : decode cX4_verdictOf 240 = .ok (.iconst 1, 1) := dk_4 (dk_at dksX4_verdictOf_10 3 rfl rfl)
theorem dX4_verdictOf_241 : decode cX4_verdictOf 241 = .ok (.goto 40, 3) := dk_167 0 40 (dk_at dksX4_verdictOf_10 4 rfl rfl)
theorem dX4_verdictOf_244 : decode cX4_verdictOf 244 = .ok (.iload 4, 2) := dk_21 4 (dk_at dksX4_verdictOf_10 7 rfl rfl)
theorem dX4_verdictOf_246 : decode cX4_verdictOf 246 = .ok (.ifCond .ne 7, 3) := dk_154 0 7 (dk_at dksX4_verdictOf_10 9 rfl rfl)
theorem dX4_verdictOf_249 : decode cX4_verdictOf 249 = .ok (.iconst 2, 1) := dk_5 (dk_at dksX4_verdictOf_10 12 rfl rfl)
theorem dX4_verdictOf_250 : decode cX4_verdictOf 250 = .ok (.goto 31, 3) := dk_167 0 31 (dk_at dksX4_verdictOf_10 13 rfl rfl)
theorem dX4_verdictOf_253 : decode cX4_verdictOf 253 = .ok (.iload 5, 2) := dk_21 5 (dk_at dksX4_verdictOf_10 16 rfl rfl)
theorem dX4_verdictOf_255 : decode cX4_verdictOf 255 = .ok (.ifCond .ne 7, 3) := dk_154 0 7 (dk_at dksX4_verdictOf_10 18 rfl rfl)
theorem dX4_verdictOf_258 : decode cX4_verdictOf 258 = .ok (.iconst 3, 1) := dk_6 (dk_at dksX4_verdictOf_10 21 rfl rfl)
theorem dX4_verdictOf_259 : decode cX4_verdictOf 259 = .ok (.goto 22, 3) := dk_167 0 22 (dk_at dksX4_verdictOf_11 0 rfl rfl)
theorem dX4_verdictOf_262 : decode cX4_verdictOf 262 = .ok (.iload 6, 2) := dk_21 6 (dk_at dksX4_verdictOf_11 3 rfl rfl)
theorem dX4_verdictOf_264 : decode cX4_verdictOf 264 = .ok (.ifCond .ne 7, 3) := dk_154 0 7 (dk_at dksX4_verdictOf_11 5 rfl rfl)
theorem dX4_verdictOf_267 : decode cX4_verdictOf 267 = .ok (.iconst 4, 1) := dk_7 (dk_at dksX4_verdictOf_11 8 rfl rfl)
theorem dX4_verdictOf_268 : decode cX4_verdictOf 268 = .ok (.goto 13, 3) := dk_167 0 13 (dk_at dksX4_verdictOf_11 9 rfl rfl)
theorem dX4_verdictOf_271 : decode cX4_verdictOf 271 = .ok (.iload 7, 2) := dk_21 7 (dk_at dksX4_verdictOf_11 12 rfl rfl)
theorem dX4_verdictOf_273 : decode cX4_verdictOf 273 = .ok (.ifCond .ne 7, 3) := dk_154 0 7 (dk_at dksX4_verdictOf_11 14 rfl rfl)
theorem dX4_verdictOf_276 : decode cX4_verdictOf 276 = .ok (.iconst 5, 1) := dk_8 (dk_at dksX4_verdictOf_11 17 rfl rfl)
theorem dX4_verdictOf_277 : decode cX4_verdictOf 277 = .ok (.goto 4, 3) := dk_167 0 4 (dk_at dksX4_verdictOf_11 18 rfl rfl)
theorem dX4_verdictOf_280 : decode cX4_verdictOf 280 = .ok (.iconst 0, 1) := dk_3 (dk_at dksX4_verdictOf_11 21 rfl rfl)
theorem dX4_verdictOf_281 : decode cX4_verdictOf 281 = .ok (.ireturn, 1) := dk_172 (dk_at dksX4_verdictOf_11 22 rfl rfl)
abbrev cX4_adjustment : ByteArray := prog_21_method_55_code
def yX4_adjustment : MethodName := ⟨RX4, "adjustment", "(I)I"⟩
def dkwX4_adjustment_2 : List UInt8 := [182, 1, 21, 172]
abbrev dktX4_adjustment_2 : List UInt8 := dkwX4_adjustment_2 ++ []
def dkwX4_adjustment_1 : List UInt8 := [154, 0, 7, 5, 167, 0, 4, 3, 181, 0, 1, 42, 180, 0, 1, 158, 0, 7, 3, 167, 0, 8, 42, 27]
abbrev dktX4_adjustment_1 : List UInt8 := dkwX4_adjustment_1 ++ dktX4_adjustment_2
def dkwX4_adjustment_0 : List UInt8 := [42, 42, 27, 182, 0, 252, 154, 0, 7, 4, 167, 0, 21, 42, 180, 0, 13, 17, 0, 151, 27, 96, 46]
abbrev dktX4_adjustment_0 : List UInt8 := dkwX4_adjustment_0 ++ dktX4_adjustment_1
theorem dksX4_adjustment_0 : cX4_adjustment.data.toList.drop 0 = dktX4_adjustment_0 := by decide +kernel
theorem dksX4_adjustment_1 : cX4_adjustment.data.toList.drop 23 = dktX4_adjustment_1 := dk_seg dksX4_adjustment_0 23 rfl rfl
theorem dksX4_adjustment_2 : cX4_adjustment.data.toList.drop 47 = dktX4_adjustment_2 := dk_seg dksX4_adjustment_1 24 rfl rfl
theorem dX4_adjustment_0 : decode cX4_adjustment 0 = .ok (.aload_n 0, 1) := dk_42 (dk_at dksX4_adjustment_0 0 rfl rfl)
theorem dX4_adjustment_1 : decode cX4_adjustment 1 = .ok (.aload_n 0, 1) := dk_42 (dk_at dksX4_adjustment_0 1 rfl rfl)
theorem dX4_adjustment_2 : decode cX4_adjustment 2 = .ok (.iload_n 1, 1) := dk_27 (dk_at dksX4_adjustment_0 2 rfl rfl)
theorem dX4_adjustment_3 : decode cX4_adjustment 3 = .ok (.invokevirtual 252, 3) := dk_182 0 252 (dk_at dksX4_adjustment_0 3 rfl rfl)
theorem dX4_adjustment_6 : decode cX4_adjustment 6 = .ok (.ifCond .ne 7, 3) := dk_154 0 7 (dk_at dksX4_adjustment_0 6 rfl rfl)
theorem dX4_adjustment_9 : decode cX4_adjustment 9 = .ok (.iconst 1, 1) := dk_4 (dk_at dksX4_adjustment_0 9 rfl rfl)
theorem dX4_adjustment_10 : decode cX4_adjustment 10 = .ok (.goto 21, 3) := dk_167 0 21 (dk_at dksX4_adjustment_0 10 rfl rfl)
theorem dX4_adjustment_13 : decode cX4_adjustment 13 = .ok (.aload_n 0, 1) := dk_42 (dk_at dksX4_adjustment_0 13 rfl rfl)
theorem dX4_adjustment_14 : decode cX4_adjustment 14 = .ok (.getfield 13, 3) := dk_180 0 13 (dk_at dksX4_adjustment_0 14 rfl rfl)
theorem dX4_adjustment_17 : decode cX4_adjustment 17 = .ok (.sipush 151, 3) := dk_17 0 151 (dk_at dksX4_adjustment_0 17 rfl rfl)
theorem dX4_adjustment_20 : decode cX4_adjustment 20 = .ok (.iload_n 1, 1) := dk_27 (dk_at dksX4_adjustment_0 20 rfl rfl)
theorem dX4_adjustment_21 : decode cX4_adjustment 21 = .ok (.iadd, 1) := dk_96 (dk_at dksX4_adjustment_0 21 rfl rfl)
theorem dX4_adjustment_22 : decode cX4_adjustment 22 = .ok (.iaload, 1) := dk_46 (dk_at dksX4_adjustment_0 22 rfl rfl)
theorem dX4_adjustment_23 : decode cX4_adjustment 23 = .ok (.ifCond .ne 7, 3) := dk_154 0 7 (dk_at dksX4_adjustment_1 0 rfl rfl)
theorem dX4_adjustment_26 : decode cX4_adjustment 26 = .ok (.iconst 2, 1) := dk_5 (dk_at dksX4_adjustment_1 3 rfl rfl)
theorem dX4_adjustment_27 : decode cX4_adjustment 27 = .ok (.goto 4, 3) := dk_167 0 4 (dk_at dksX4_adjustment_1 4 rfl rfl)
theorem dX4_adjustment_30 : decode cX4_adjustment 30 = .ok (.iconst 0, 1) := dk_3 (dk_at dksX4_adjustment_1 7 rfl rfl)
theorem dX4_adjustment_31 : decode cX4_adjustment 31 = .ok (.putfield 1, 3) := dk_181 0 1 (dk_at dksX4_adjustment_1 8 rfl rfl)
theorem dX4_adjustment_34 : decode cX4_adjustment 34 = .ok (.aload_n 0, 1) := dk_42 (dk_at dksX4_adjustment_1 11 rfl rfl)
theorem dX4_adjustment_35 : decode cX4_adjustment 35 = .ok (.getfield 1, 3) := dk_180 0 1 (dk_at dksX4_adjustment_1 12 rfl rfl)
theorem dX4_adjustment_38 : decode cX4_adjustment 38 = .ok (.ifCond .le 7, 3) := dk_158 0 7 (dk_at dksX4_adjustment_1 15 rfl rfl)
theorem dX4_adjustment_41 : decode cX4_adjustment 41 = .ok (.iconst 0, 1) := dk_3 (dk_at dksX4_adjustment_1 18 rfl rfl)
theorem dX4_adjustment_42 : decode cX4_adjustment 42 = .ok (.goto 8, 3) := dk_167 0 8 (dk_at dksX4_adjustment_1 19 rfl rfl)
theorem dX4_adjustment_45 : decode cX4_adjustment 45 = .ok (.aload_n 0, 1) := dk_42 (dk_at dksX4_adjustment_1 22 rfl rfl)
theorem dX4_adjustment_46 : decode cX4_adjustment 46 = .ok (.iload_n 1, 1) := dk_27 (dk_at dksX4_adjustment_1 23 rfl rfl)
theorem dX4_adjustment_47 : decode cX4_adjustment 47 = .ok (.invokevirtual 277, 3) := dk_182 1 21 (dk_at dksX4_adjustment_2 0 rfl rfl)
theorem dX4_adjustment_50 : decode cX4_adjustment 50 = .ok (.ireturn, 1) := dk_172 (dk_at dksX4_adjustment_2 3 rfl rfl)
abbrev cX4_adjustmentOf : ByteArray := prog_21_method_54_code
def yX4_adjustmentOf : MethodName := ⟨RX4, "adjustmentOf", "(I)I"⟩
def dkwX4_adjustmentOf_3 : List UInt8 := [122, 172]
abbrev dktX4_adjustmentOf_3 : List UInt8 := dkwX4_adjustmentOf_3 ++ []
def dkwX4_adjustmentOf_2 : List UInt8 := [61, 21, 5, 29, 164, 0, 8, 21, 5, 167, 0, 4, 29, 62, 132, 4, 1, 167, 255, 203, 28, 29, 96, 4]
abbrev dktX4_adjustmentOf_2 : List UInt8 := dkwX4_adjustmentOf_2 ++ dktX4_adjustmentOf_3
def dkwX4_adjustmentOf_1 : List UInt8 := [162, 0, 44, 42, 27, 21, 4, 182, 1, 9, 54, 5, 21, 5, 28, 162, 0, 8, 21, 5, 167, 0, 4, 28]
abbrev dktX4_adjustmentOf_1 : List UInt8 := dkwX4_adjustmentOf_1 ++ dktX4_adjustmentOf_2
def dkwX4_adjustmentOf_0 : List UInt8 := [42, 27, 3, 182, 1, 9, 61, 28, 62, 4, 54, 4, 21, 4, 42, 180, 0, 13, 17, 0, 151, 27, 96, 46]
abbrev dktX4_adjustmentOf_0 : List UInt8 := dkwX4_adjustmentOf_0 ++ dktX4_adjustmentOf_1
theorem dksX4_adjustmentOf_0 : cX4_adjustmentOf.data.toList.drop 0 = dktX4_adjustmentOf_0 := by decide +kernel
theorem dksX4_adjustmentOf_1 : cX4_adjustmentOf.data.toList.drop 24 = dktX4_adjustmentOf_1 := dk_seg dksX4_adjustmentOf_0 24 rfl rfl
theorem dksX4_adjustmentOf_2 : cX4_adjustmentOf.data.toList.drop 48 = dktX4_adjustmentOf_2 := dk_seg dksX4_adjustmentOf_1 24 rfl rfl
theorem dksX4_adjustmentOf_3 : cX4_adjustmentOf.data.toList.drop 72 = dktX4_adjustmentOf_3 := dk_seg dksX4_adjustmentOf_2 24 rfl rfl
theorem dX4_adjustmentOf_0 : decode cX4_adjustmentOf 0 = .ok (.aload_n 0, 1) := dk_42 (dk_at dksX4_adjustmentOf_0 0 rfl rfl)
theorem dX4_adjustmentOf_1 : decode cX4_adjustmentOf 1 = .ok (.iload_n 1, 1) := dk_27 (dk_at dksX4_adjustmentOf_0 1 rfl rfl)
theorem dX4_adjustmentOf_2 : decode cX4_adjustmentOf 2 = .ok (.iconst 0, 1) := dk_3 (dk_at dksX4_adjustmentOf_0 2 rfl rfl)
theorem dX4_adjustmentOf_3 : decode cX4_adjustmentOf 3 = .ok (.invokevirtual 265, 3) := dk_182 1 9 (dk_at dksX4_adjustmentOf_0 3 rfl rfl)
theorem dX4_adjustmentOf_6 : decode cX4_adjustmentOf 6 = .ok (.istore_n 2, 1) := dk_61 (dk_at dksX4_adjustmentOf_0 6 rfl rfl)
theorem dX4_adjustmentOf_7 : decode cX4_adjustmentOf 7 = .ok (.iload_n 2, 1) := dk_28 (dk_at dksX4_adjustmentOf_0 7 rfl rfl)
theorem dX4_adjustmentOf_8 : decode cX4_adjustmentOf 8 = .ok (.istore_n 3, 1) := dk_62 (dk_at dksX4_adjustmentOf_0 8 rfl rfl)
theorem dX4_adjustmentOf_9 : decode cX4_adjustmentOf 9 = .ok (.iconst 1, 1) := dk_4 (dk_at dksX4_adjustmentOf_0 9 rfl rfl)
theorem dX4_adjustmentOf_10 : decode cX4_adjustmentOf 10 = .ok (.istore 4, 2) := dk_54 4 (dk_at dksX4_adjustmentOf_0 10 rfl rfl)
theorem dX4_adjustmentOf_12 : decode cX4_adjustmentOf 12 = .ok (.iload 4, 2) := dk_21 4 (dk_at dksX4_adjustmentOf_0 12 rfl rfl)
theorem dX4_adjustmentOf_14 : decode cX4_adjustmentOf 14 = .ok (.aload_n 0, 1) := dk_42 (dk_at dksX4_adjustmentOf_0 14 rfl rfl)
theorem dX4_adjustmentOf_15 : decode cX4_adjustmentOf 15 = .ok (.getfield 13, 3) := dk_180 0 13 (dk_at dksX4_adjustmentOf_0 15 rfl rfl)
theorem dX4_adjustmentOf_18 : decode cX4_adjustmentOf 18 = .ok (.sipush 151, 3) := dk_17 0 151 (dk_at dksX4_adjustmentOf_0 18 rfl rfl)
theorem dX4_adjustmentOf_21 : decode cX4_adjustmentOf 21 = .ok (.iload_n 1, 1) := dk_27 (dk_at dksX4_adjustmentOf_0 21 rfl rfl)
theorem dX4_adjustmentOf_22 : decode cX4_adjustmentOf 22 = .ok (.iadd, 1) := dk_96 (dk_at dksX4_adjustmentOf_0 22 rfl rfl)
theorem dX4_adjustmentOf_23 : decode cX4_adjustmentOf 23 = .ok (.iaload, 1) := dk_46 (dk_at dksX4_adjustmentOf_0 23 rfl rfl)
theorem dX4_adjustmentOf_24 : decode cX4_adjustmentOf 24 = .ok (.if_icmp .ge 44, 3) := dk_162 0 44 (dk_at dksX4_adjustmentOf_1 0 rfl rfl)
theorem dX4_adjustmentOf_27 : decode cX4_adjustmentOf 27 = .ok (.aload_n 0, 1) := dk_42 (dk_at dksX4_adjustmentOf_1 3 rfl rfl)
theorem dX4_adjustmentOf_28 : decode cX4_adjustmentOf 28 = .ok (.iload_n 1, 1) := dk_27 (dk_at dksX4_adjustmentOf_1 4 rfl rfl)
theorem dX4_adjustmentOf_29 : decode cX4_adjustmentOf 29 = .ok (.iload 4, 2) := dk_21 4 (dk_at dksX4_adjustmentOf_1 5 rfl rfl)
theorem dX4_adjustmentOf_31 : decode cX4_adjustmentOf 31 = .ok (.invokevirtual 265, 3) := dk_182 1 9 (dk_at dksX4_adjustmentOf_1 7 rfl rfl)
theorem dX4_adjustmentOf_34 : decode cX4_adjustmentOf 34 = .ok (.istore 5, 2) := dk_54 5 (dk_at dksX4_adjustmentOf_1 10 rfl rfl)
theorem dX4_adjustmentOf_36 : decode cX4_adjustmentOf 36 = .ok (.iload 5, 2) := dk_21 5 (dk_at dksX4_adjustmentOf_1 12 rfl rfl)
theorem dX4_adjustmentOf_38 : decode cX4_adjustmentOf 38 = .ok (.iload_n 2, 1) := dk_28 (dk_at dksX4_adjustmentOf_1 14 rfl rfl)
theorem dX4_adjustmentOf_39 : decode cX4_adjustmentOf 39 = .ok (.if_icmp .ge 8, 3) := dk_162 0 8 (dk_at dksX4_adjustmentOf_1 15 rfl rfl)
theorem dX4_adjustmentOf_42 : decode cX4_adjustmentOf 42 = .ok (.iload 5, 2) := dk_21 5 (dk_at dksX4_adjustmentOf_1 18 rfl rfl)
theorem dX4_adjustmentOf_44 : decode cX4_adjustmentOf 44 = .ok (.goto 4, 3) := dk_167 0 4 (dk_at dksX4_adjustmentOf_1 20 rfl rfl)
theorem dX4_adjustmentOf_47 : decode cX4_adjustmentOf 47 = .ok (.iload_n 2, 1) := dk_28 (dk_at dksX4_adjustmentOf_1 23 rfl rfl)
theorem dX4_adjustmentOf_48 : decode cX4_adjustmentOf 48 = .ok (.istore_n 2, 1) := dk_61 (dk_at dksX4_adjustmentOf_2 0 rfl rfl)
theorem dX4_adjustmentOf_49 : decode cX4_adjustmentOf 49 = .ok (.iload 5, 2) := dk_21 5 (dk_at dksX4_adjustmentOf_2 1 rfl rfl)
theorem dX4_adjustmentOf_51 : decode cX4_adjustmentOf 51 = .ok (.iload_n 3, 1) := dk_29 (dk_at dksX4_adjustmentOf_2 3 rfl rfl)
theorem dX4_adjustmentOf_52 : decode cX4_adjustmentOf 52 = .ok (.if_icmp .le 8, 3) := dk_164 0 8 (dk_at dksX4_adjustmentOf_2 4 rfl rfl)
theorem dX4_adjustmentOf_55 : decode cX4_adjustmentOf 55 = .ok (.iload 5, 2) := dk_21 5 (dk_at dksX4_adjustmentOf_2 7 rfl rfl)
theorem dX4_adjustmentOf_57 : decode cX4_adjustmentOf 57 = .ok (.goto 4, 3) := dk_167 0 4 (dk_at dksX4_adjustmentOf_2 9 rfl rfl)
theorem dX4_adjustmentOf_60 : decode cX4_adjustmentOf 60 = .ok (.iload_n 3, 1) := dk_29 (dk_at dksX4_adjustmentOf_2 12 rfl rfl)
theorem dX4_adjustmentOf_61 : decode cX4_adjustmentOf 61 = .ok (.istore_n 3, 1) := dk_62 (dk_at dksX4_adjustmentOf_2 13 rfl rfl)
theorem dX4_adjustmentOf_62 : decode cX4_adjustmentOf 62 = .ok (.iinc 4 1, 3) := dk_132 4 1 (dk_at dksX4_adjustmentOf_2 14 rfl rfl)
theorem dX4_adjustmentOf_65 : decode cX4_adjustmentOf 65 = .ok (.goto (-53), 3) := dk_167 255 203 (dk_at dksX4_adjustmentOf_2 17 rfl rfl)
theorem dX4_adjustmentOf_68 : decode cX4_adjustmentOf 68 = .ok (.iload_n 2, 1) := dk_28 (dk_at dksX4_adjustmentOf_2 20 rfl rfl)
theorem dX4_adjustmentOf_69 : decode cX4_adjustmentOf 69 = .ok (.iload_n 3, 1) := dk_29 (dk_at dksX4_adjustmentOf_2 21 rfl rfl)
theorem dX4_adjustmentOf_70 : decode cX4_adjustmentOf 70 = .ok (.iadd, 1) := dk_96 (dk_at dksX4_adjustmentOf_2 22 rfl rfl)
theorem dX4_adjustmentOf_71 : decode cX4_adjustmentOf 71 = .ok (.iconst 1, 1) := dk_4 (dk_at dksX4_adjustmentOf_2 23 rfl rfl)
theorem dX4_adjustmentOf_72 : decode cX4_adjustmentOf 72 = .ok (.ishr, 1) := dk_122 (dk_at dksX4_adjustmentOf_3 0 rfl rfl)
theorem dX4_adjustmentOf_73 : decode cX4_adjustmentOf 73 = .ok (.ireturn, 1) := dk_172 (dk_at dksX4_adjustmentOf_3 1 rfl rfl)
abbrev cX4_adjustedVerdict : ByteArray := prog_21_method_56_code
def yX4_adjustedVerdict : MethodName := ⟨RX4, "adjustedVerdict", "(I)I"⟩
def dkwX4_adjustedVerdict_1 : List UInt8 := [46, 154, 0, 7, 4, 167, 0, 13, 42, 27, 42, 27, 182, 1, 21, 182, 1, 18, 172]
abbrev dktX4_adjustedVerdict_1 : List UInt8 := dkwX4_adjustedVerdict_1 ++ []
def dkwX4_adjustedVerdict_0 : List UInt8 := [42, 3, 181, 0, 1, 42, 27, 182, 0, 252, 154, 0, 5, 2, 172, 42, 180, 0, 13, 17, 0, 151, 27, 96]
abbrev dktX4_adjustedVerdict_0 : List UInt8 := dkwX4_adjustedVerdict_0 ++ dktX4_adjustedVerdict_1
theorem dksX4_adjustedVerdict_0 : cX4_adjustedVerdict.data.toList.drop 0 = dktX4_adjustedVerdict_0 := by decide +kernel
theorem dksX4_adjustedVerdict_1 : cX4_adjustedVerdict.data.toList.drop 24 = dktX4_adjustedVerdict_1 := dk_seg dksX4_adjustedVerdict_0 24 rfl rfl
theorem dX4_adjustedVerdict_0 : decode cX4_adjustedVerdict 0 = .ok (.aload_n 0, 1) := dk_42 (dk_at dksX4_adjustedVerdict_0 0 rfl rfl)
theorem dX4_adjustedVerdict_1 : decode cX4_adjustedVerdict 1 = .ok (.iconst 0, 1) := dk_3 (dk_at dksX4_adjustedVerdict_0 1 rfl rfl)
theorem dX4_adjustedVerdict_2 : decode cX4_adjustedVerdict 2 = .ok (.putfield 1, 3) := dk_181 0 1 (dk_at dksX4_adjustedVerdict_0 2 rfl rfl)
theorem dX4_adjustedVerdict_5 : decode cX4_adjustedVerdict 5 = .ok (.aload_n 0, 1) := dk_42 (dk_at dksX4_adjustedVerdict_0 5 rfl rfl)
theorem dX4_adjustedVerdict_6 : decode cX4_adjustedVerdict 6 = .ok (.iload_n 1, 1) := dk_27 (dk_at dksX4_adjustedVerdict_0 6 rfl rfl)
theorem dX4_adjustedVerdict_7 : decode cX4_adjustedVerdict 7 = .ok (.invokevirtual 252, 3) := dk_182 0 252 (dk_at dksX4_adjustedVerdict_0 7 rfl rfl)
theorem dX4_adjustedVerdict_10 : decode cX4_adjustedVerdict 10 = .ok (.ifCond .ne 5, 3) := dk_154 0 5 (dk_at dksX4_adjustedVerdict_0 10 rfl rfl)
theorem dX4_adjustedVerdict_13 : decode cX4_adjustedVerdict 13 = .ok (.iconst (-1), 1) := dk_2 (dk_at dksX4_adjustedVerdict_0 13 rfl rfl)
theorem dX4_adjustedVerdict_14 : decode cX4_adjustedVerdict 14 = .ok (.ireturn, 1) := dk_172 (dk_at dksX4_adjustedVerdict_0 14 rfl rfl)
theorem dX4_adjustedVerdict_15 : decode cX4_adjustedVerdict 15 = .ok (.aload_n 0, 1) := dk_42 (dk_at dksX4_adjustedVerdict_0 15 rfl rfl)
theorem dX4_adjustedVerdict_16 : decode cX4_adjustedVerdict 16 = .ok (.getfield 13, 3) := dk_180 0 13 (dk_at dksX4_adjustedVerdict_0 16 rfl rfl)
theorem dX4_adjustedVerdict_19 : decode cX4_adjustedVerdict 19 = .ok (.sipush 151, 3) := dk_17 0 151 (dk_at dksX4_adjustedVerdict_0 19 rfl rfl)
theorem dX4_adjustedVerdict_22 : decode cX4_adjustedVerdict 22 = .ok (.iload_n 1, 1) := dk_27 (dk_at dksX4_adjustedVerdict_0 22 rfl rfl)
theorem dX4_adjustedVerdict_23 : decode cX4_adjustedVerdict 23 = .ok (.iadd, 1) := dk_96 (dk_at dksX4_adjustedVerdict_0 23 rfl rfl)
theorem dX4_adjustedVerdict_24 : decode cX4_adjustedVerdict 24 = .ok (.iaload, 1) := dk_46 (dk_at dksX4_adjustedVerdict_1 0 rfl rfl)
theorem dX4_adjustedVerdict_25 : decode cX4_adjustedVerdict 25 = .ok (.ifCond .ne 7, 3) := dk_154 0 7 (dk_at dksX4_adjustedVerdict_1 1 rfl rfl)
theorem dX4_adjustedVerdict_28 : decode cX4_adjustedVerdict 28 = .ok (.iconst 1, 1) := dk_4 (dk_at dksX4_adjustedVerdict_1 4 rfl rfl)
theorem dX4_adjustedVerdict_29 : decode cX4_adjustedVerdict 29 = .ok (.goto 13, 3) := dk_167 0 13 (dk_at dksX4_adjustedVerdict_1 5 rfl rfl)
theorem dX4_adjustedVerdict_32 : decode cX4_adjustedVerdict 32 = .ok (.aload_n 0, 1) := dk_42 (dk_at dksX4_adjustedVerdict_1 8 rfl rfl)
theorem dX4_adjustedVerdict_33 : decode cX4_adjustedVerdict 33 = .ok (.iload_n 1, 1) := dk_27 (dk_at dksX4_adjustedVerdict_1 9 rfl rfl)
theorem dX4_adjustedVerdict_34 : decode cX4_adjustedVerdict 34 = .ok (.aload_n 0, 1) := dk_42 (dk_at dksX4_adjustedVerdict_1 10 rfl rfl)
theorem dX4_adjustedVerdict_35 : decode cX4_adjustedVerdict 35 = .ok (.iload_n 1, 1) := dk_27 (dk_at dksX4_adjustedVerdict_1 11 rfl rfl)
theorem dX4_adjustedVerdict_36 : decode cX4_adjustedVerdict 36 = .ok (.invokevirtual 277, 3) := dk_182 1 21 (dk_at dksX4_adjustedVerdict_1 12 rfl rfl)
theorem dX4_adjustedVerdict_39 : decode cX4_adjustedVerdict 39 = .ok (.invokevirtual 274, 3) := dk_182 1 18 (dk_at dksX4_adjustedVerdict_1 15 rfl rfl)
theorem dX4_adjustedVerdict_42 : decode cX4_adjustedVerdict 42 = .ok (.ireturn, 1) := dk_172 (dk_at dksX4_adjustedVerdict_1 18 rfl rfl)
abbrev cX4_closeVisit : ByteArray := prog_21_method_57_code
def yX4_closeVisit : MethodName := ⟨RX4, "closeVisit", "(I)I"⟩
def dkwX4_closeVisit_2 : List UInt8 := [180, 0, 13, 16, 91, 27, 96, 42, 27, 3, 182, 1, 18, 79, 42, 180, 0, 13, 16, 91, 27, 96, 46, 172]
abbrev dktX4_closeVisit_2 : List UInt8 := dkwX4_closeVisit_2 ++ []
def dkwX4_closeVisit_1 : List UInt8 := [4, 160, 0, 6, 16, 254, 172, 42, 182, 0, 249, 42, 180, 0, 13, 16, 61, 27, 96, 4, 79, 42]
abbrev dktX4_closeVisit_1 : List UInt8 := dkwX4_closeVisit_1 ++ dktX4_closeVisit_2
def dkwX4_closeVisit_0 : List UInt8 := [42, 3, 181, 0, 1, 42, 27, 182, 0, 252, 154, 0, 5, 2, 172, 42, 180, 0, 13, 16, 61, 27, 96, 46]
abbrev dktX4_closeVisit_0 : List UInt8 := dkwX4_closeVisit_0 ++ dktX4_closeVisit_1
theorem dksX4_closeVisit_0 : cX4_closeVisit.data.toList.drop 0 = dktX4_closeVisit_0 := by decide +kernel
theorem dksX4_closeVisit_1 : cX4_closeVisit.data.toList.drop 24 = dktX4_closeVisit_1 := dk_seg dksX4_closeVisit_0 24 rfl rfl
theorem dksX4_closeVisit_2 : cX4_closeVisit.data.toList.drop 46 = dktX4_closeVisit_2 := dk_seg dksX4_closeVisit_1 22 rfl rfl
theorem dX4_closeVisit_0 : decode cX4_closeVisit 0 = .ok (.aload_n 0, 1) := dk_42 (dk_at dksX4_closeVisit_0 0 rfl rfl)
theorem dX4_closeVisit_1 : decode cX4_closeVisit 1 = .ok (.iconst 0, 1) := dk_3 (dk_at dksX4_closeVisit_0 1 rfl rfl)
theorem dX4_closeVisit_2 : decode cX4_closeVisit 2 = .ok (.putfield 1, 3) := dk_181 0 1 (dk_at dksX4_closeVisit_0 2 rfl rfl)
theorem dX4_closeVisit_5 : decode cX4_closeVisit 5 = .ok (.aload_n 0, 1) := dk_42 (dk_at dksX4_closeVisit_0 5 rfl rfl)
theorem dX4_closeVisit_6 : decode cX4_closeVisit 6 = .ok (.iload_n 1, 1) := dk_27 (dk_at dksX4_closeVisit_0 6 rfl rfl)
theorem dX4_closeVisit_7 : decode cX4_closeVisit 7 = .ok (.invokevirtual 252, 3) := dk_182 0 252 (dk_at dksX4_closeVisit_0 7 rfl rfl)
theorem dX4_closeVisit_10 : decode cX4_closeVisit 10 = .ok (.ifCond .ne 5, 3) := dk_154 0 5 (dk_at dksX4_closeVisit_0 10 rfl rfl)
theorem dX4_closeVisit_13 : decode cX4_closeVisit 13 = .ok (.iconst (-1), 1) := dk_2 (dk_at dksX4_closeVisit_0 13 rfl rfl)
theorem dX4_closeVisit_14 : decode cX4_closeVisit 14 = .ok (.ireturn, 1) := dk_172 (dk_at dksX4_closeVisit_0 14 rfl rfl)
theorem dX4_closeVisit_15 : decode cX4_closeVisit 15 = .ok (.aload_n 0, 1) := dk_42 (dk_at dksX4_closeVisit_0 15 rfl rfl)
theorem dX4_closeVisit_16 : decode cX4_closeVisit 16 = .ok (.getfield 13, 3) := dk_180 0 13 (dk_at dksX4_closeVisit_0 16 rfl rfl)
theorem dX4_closeVisit_19 : decode cX4_closeVisit 19 = .ok (.bipush 61, 2) := dk_16 61 (dk_at dksX4_closeVisit_0 19 rfl rfl)
theorem dX4_closeVisit_21 : decode cX4_closeVisit 21 = .ok (.iload_n 1, 1) := dk_27 (dk_at dksX4_closeVisit_0 21 rfl rfl)
theorem dX4_closeVisit_22 : decode cX4_closeVisit 22 = .ok (.iadd, 1) := dk_96 (dk_at dksX4_closeVisit_0 22 rfl rfl)
theorem dX4_closeVisit_23 : decode cX4_closeVisit 23 = .ok (.iaload, 1) := dk_46 (dk_at dksX4_closeVisit_0 23 rfl rfl)
theorem dX4_closeVisit_24 : decode cX4_closeVisit 24 = .ok (.iconst 1, 1) := dk_4 (dk_at dksX4_closeVisit_1 0 rfl rfl)
theorem dX4_closeVisit_25 : decode cX4_closeVisit 25 = .ok (.if_icmp .ne 6, 3) := dk_160 0 6 (dk_at dksX4_closeVisit_1 1 rfl rfl)
theorem dX4_closeVisit_28 : decode cX4_closeVisit 28 = .ok (.bipush (-2), 2) := dk_16 254 (dk_at dksX4_closeVisit_1 4 rfl rfl)
theorem dX4_closeVisit_30 : decode cX4_closeVisit 30 = .ok (.ireturn, 1) := dk_172 (dk_at dksX4_closeVisit_1 6 rfl rfl)
theorem dX4_closeVisit_31 : decode cX4_closeVisit 31 = .ok (.aload_n 0, 1) := dk_42 (dk_at dksX4_closeVisit_1 7 rfl rfl)
theorem dX4_closeVisit_32 : decode cX4_closeVisit 32 = .ok (.invokevirtual 249, 3) := dk_182 0 249 (dk_at dksX4_closeVisit_1 8 rfl rfl)
theorem dX4_closeVisit_35 : decode cX4_closeVisit 35 = .ok (.aload_n 0, 1) := dk_42 (dk_at dksX4_closeVisit_1 11 rfl rfl)
theorem dX4_closeVisit_36 : decode cX4_closeVisit 36 = .ok (.getfield 13, 3) := dk_180 0 13 (dk_at dksX4_closeVisit_1 12 rfl rfl)
theorem dX4_closeVisit_39 : decode cX4_closeVisit 39 = .ok (.bipush 61, 2) := dk_16 61 (dk_at dksX4_closeVisit_1 15 rfl rfl)
theorem dX4_closeVisit_41 : decode cX4_closeVisit 41 = .ok (.iload_n 1, 1) := dk_27 (dk_at dksX4_closeVisit_1 17 rfl rfl)
theorem dX4_closeVisit_42 : decode cX4_closeVisit 42 = .ok (.iadd, 1) := dk_96 (dk_at dksX4_closeVisit_1 18 rfl rfl)
theorem dX4_closeVisit_43 : decode cX4_closeVisit 43 = .ok (.iconst 1, 1) := dk_4 (dk_at dksX4_closeVisit_1 19 rfl rfl)
theorem dX4_closeVisit_44 : decode cX4_closeVisit 44 = .ok (.iastore, 1) := dk_79 (dk_at dksX4_closeVisit_1 20 rfl rfl)
theorem dX4_closeVisit_45 : decode cX4_closeVisit 45 = .ok (.aload_n 0, 1) := dk_42 (dk_at dksX4_closeVisit_1 21 rfl rfl)
theorem dX4_closeVisit_46 : decode cX4_closeVisit 46 = .ok (.getfield 13, 3) := dk_180 0 13 (dk_at dksX4_closeVisit_2 0 rfl rfl)
theorem dX4_closeVisit_49 : decode cX4_closeVisit 49 = .ok (.bipush 91, 2) := dk_16 91 (dk_at dksX4_closeVisit_2 3 rfl rfl)
theorem dX4_closeVisit_51 : decode cX4_closeVisit 51 = .ok (.iload_n 1, 1) := dk_27 (dk_at dksX4_closeVisit_2 5 rfl rfl)
theorem dX4_closeVisit_52 : decode cX4_closeVisit 52 = .ok (.iadd, 1) := dk_96 (dk_at dksX4_closeVisit_2 6 rfl rfl)
theorem dX4_closeVisit_53 : decode cX4_closeVisit 53 = .ok (.aload_n 0, 1) := dk_42 (dk_at dksX4_closeVisit_2 7 rfl rfl)
theorem dX4_closeVisit_54 : decode cX4_closeVisit 54 = .ok (.iload_n 1, 1) := dk_27 (dk_at dksX4_closeVisit_2 8 rfl rfl)
theorem dX4_closeVisit_55 : decode cX4_closeVisit 55 = .ok (.iconst 0, 1) := dk_3 (dk_at dksX4_closeVisit_2 9 rfl rfl)
theorem dX4_closeVisit_56 : decode cX4_closeVisit 56 = .ok (.invokevirtual 274, 3) := dk_182 1 18 (dk_at dksX4_closeVisit_2 10 rfl rfl)
theorem dX4_closeVisit_59 : decode cX4_closeVisit 59 = .ok (.iastore, 1) := dk_79 (dk_at dksX4_closeVisit_2 13 rfl rfl)
theorem dX4_closeVisit_60 : decode cX4_closeVisit 60 = .ok (.aload_n 0, 1) := dk_42 (dk_at dksX4_closeVisit_2 14 rfl rfl)
theorem dX4_closeVisit_61 : decode cX4_closeVisit 61 = .ok (.getfield 13, 3) := dk_180 0 13 (dk_at dksX4_closeVisit_2 15 rfl rfl)
theorem dX4_closeVisit_64 : decode cX4_closeVisit 64 = .ok (.bipush 91, 2) := dk_16 91 (dk_at dksX4_closeVisit_2 18 rfl rfl)
theorem dX4_closeVisit_66 : decode cX4_closeVisit 66 = .ok (.iload_n 1, 1) := dk_27 (dk_at dksX4_closeVisit_2 20 rfl rfl)
theorem dX4_closeVisit_67 : decode cX4_closeVisit 67 = .ok (.iadd, 1) := dk_96 (dk_at dksX4_closeVisit_2 21 rfl rfl)
theorem dX4_closeVisit_68 : decode cX4_closeVisit 68 = .ok (.iaload, 1) := dk_46 (dk_at dksX4_closeVisit_2 22 rfl rfl)
theorem dX4_closeVisit_69 : decode cX4_closeVisit 69 = .ok (.ireturn, 1) := dk_172 (dk_at dksX4_closeVisit_2 23 rfl rfl)
abbrev cX4_isClosed : ByteArray := prog_21_method_58_code
def yX4_isClosed : MethodName := ⟨RX4, "isClosed", "(I)I"⟩
def dkwX4_isClosed_1 : List UInt8 := [167, 0, 4, 2, 172]
abbrev dktX4_isClosed_1 : List UInt8 := dkwX4_isClosed_1 ++ []
def dkwX4_isClosed_0 : List UInt8 := [42, 3, 181, 0, 1, 42, 27, 182, 0, 252, 153, 0, 15, 42, 180, 0, 13, 16, 61, 27, 96, 46]
abbrev dktX4_isClosed_0 : List UInt8 := dkwX4_isClosed_0 ++ dktX4_isClosed_1
theorem dksX4_isClosed_0 : cX4_isClosed.data.toList.drop 0 = dktX4_isClosed_0 := by decide +kernel
theorem dksX4_isClosed_1 : cX4_isClosed.data.toList.drop 22 = dktX4_isClosed_1 := dk_seg dksX4_isClosed_0 22 rfl rfl
theorem dX4_isClosed_0 : decode cX4_isClosed 0 = .ok (.aload_n 0, 1) := dk_42 (dk_at dksX4_isClosed_0 0 rfl rfl)
theorem dX4_isClosed_1 : decode cX4_isClosed 1 = .ok (.iconst 0, 1) := dk_3 (dk_at dksX4_isClosed_0 1 rfl rfl)
theorem dX4_isClosed_2 : decode cX4_isClosed 2 = .ok (.putfield 1, 3) := dk_181 0 1 (dk_at dksX4_isClosed_0 2 rfl rfl)
theorem dX4_isClosed_5 : decode cX4_isClosed 5 = .ok (.aload_n 0, 1) := dk_42 (dk_at dksX4_isClosed_0 5 rfl rfl)
theorem dX4_isClosed_6 : decode cX4_isClosed 6 = .ok (.iload_n 1, 1) := dk_27 (dk_at dksX4_isClosed_0 6 rfl rfl)
theorem dX4_isClosed_7 : decode cX4_isClosed 7 = .ok (.invokevirtual 252, 3) := dk_182 0 252 (dk_at dksX4_isClosed_0 7 rfl rfl)
theorem dX4_isClosed_10 : decode cX4_isClosed 10 = .ok (.ifCond .eq 15, 3) := dk_153 0 15 (dk_at dksX4_isClosed_0 10 rfl rfl)
theorem dX4_isClosed_13 : decode cX4_isClosed 13 = .ok (.aload_n 0, 1) := dk_42 (dk_at dksX4_isClosed_0 13 rfl rfl)
theorem dX4_isClosed_14 : decode cX4_isClosed 14 = .ok (.getfield 13, 3) := dk_180 0 13 (dk_at dksX4_isClosed_0 14 rfl rfl)
theorem dX4_isClosed_17 : decode cX4_isClosed 17 = .ok (.bipush 61, 2) := dk_16 61 (dk_at dksX4_isClosed_0 17 rfl rfl)
theorem dX4_isClosed_19 : decode cX4_isClosed 19 = .ok (.iload_n 1, 1) := dk_27 (dk_at dksX4_isClosed_0 19 rfl rfl)
theorem dX4_isClosed_20 : decode cX4_isClosed 20 = .ok (.iadd, 1) := dk_96 (dk_at dksX4_isClosed_0 20 rfl rfl)
theorem dX4_isClosed_21 : decode cX4_isClosed 21 = .ok (.iaload, 1) := dk_46 (dk_at dksX4_isClosed_0 21 rfl rfl)
theorem dX4_isClosed_22 : decode cX4_isClosed 22 = .ok (.goto 4, 3) := dk_167 0 4 (dk_at dksX4_isClosed_1 0 rfl rfl)
theorem dX4_isClosed_25 : decode cX4_isClosed 25 = .ok (.iconst (-1), 1) := dk_2 (dk_at dksX4_isClosed_1 3 rfl rfl)
theorem dX4_isClosed_26 : decode cX4_isClosed 26 = .ok (.ireturn, 1) := dk_172 (dk_at dksX4_isClosed_1 4 rfl rfl)
abbrev cX4_sealState : ByteArray := prog_21_method_63_code
def yX4_sealState : MethodName := ⟨RX4, "sealState", "(II)I"⟩
def dkwX4_sealState_1 : List UInt8 := [182, 1, 33, 167, 0, 4, 2, 172]
abbrev dktX4_sealState_1 : List UInt8 := dkwX4_sealState_1 ++ []
def dkwX4_sealState_0 : List UInt8 := [42, 3, 181, 0, 1, 42, 27, 182, 0, 234, 153, 0, 19, 28, 184, 1, 30, 153, 0, 12, 42, 27, 28]
abbrev dktX4_sealState_0 : List UInt8 := dkwX4_sealState_0 ++ dktX4_sealState_1
theorem dksX4_sealState_0 : cX4_sealState.data.toList.drop 0 = dktX4_sealState_0 := by decide +kernel
theorem dksX4_sealState_1 : cX4_sealState.data.toList.drop 23 = dktX4_sealState_1 := dk_seg dksX4_sealState_0 23 rfl rfl
theorem dX4_sealState_0 : decode cX4_sealState 0 = .ok (.aload_n 0, 1) := dk_42 (dk_at dksX4_sealState_0 0 rfl rfl)
theorem dX4_sealState_1 : decode cX4_sealState 1 = .ok (.iconst 0, 1) := dk_3 (dk_at dksX4_sealState_0 1 rfl rfl)
theorem dX4_sealState_2 : decode cX4_sealState 2 = .ok (.putfield 1, 3) := dk_181 0 1 (dk_at dksX4_sealState_0 2 rfl rfl)
theorem dX4_sealState_5 : decode cX4_sealState 5 = .ok (.aload_n 0, 1) := dk_42 (dk_at dksX4_sealState_0 5 rfl rfl)
theorem dX4_sealState_6 : decode cX4_sealState 6 = .ok (.iload_n 1, 1) := dk_27 (dk_at dksX4_sealState_0 6 rfl rfl)
theorem dX4_sealState_7 : decode cX4_sealState 7 = .ok (.invokevirtual 234, 3) := dk_182 0 234 (dk_at dksX4_sealState_0 7 rfl rfl)
theorem dX4_sealState_10 : decode cX4_sealState 10 = .ok (.ifCond .eq 19, 3) := dk_153 0 19 (dk_at dksX4_sealState_0 10 rfl rfl)
theorem dX4_sealState_13 : decode cX4_sealState 13 = .ok (.iload_n 2, 1) := dk_28 (dk_at dksX4_sealState_0 13 rfl rfl)
theorem dX4_sealState_14 : decode cX4_sealState 14 = .ok (.invokestatic 286, 3) := dk_184 1 30 (dk_at dksX4_sealState_0 14 rfl rfl)
theorem dX4_sealState_17 : decode cX4_sealState 17 = .ok (.ifCond .eq 12, 3) := dk_153 0 12 (dk_at dksX4_sealState_0 17 rfl rfl)
theorem dX4_sealState_20 : decode cX4_sealState 20 = .ok (.aload_n 0, 1) := dk_42 (dk_at dksX4_sealState_0 20 rfl rfl)
theorem dX4_sealState_21 : decode cX4_sealState 21 = .ok (.iload_n 1, 1) := dk_27 (dk_at dksX4_sealState_0 21 rfl rfl)
theorem dX4_sealState_22 : decode cX4_sealState 22 = .ok (.iload_n 2, 1) := dk_28 (dk_at dksX4_sealState_0 22 rfl rfl)
theorem dX4_sealState_23 : decode cX4_sealState 23 = .ok (.invokevirtual 289, 3) := dk_182 1 33 (dk_at dksX4_sealState_1 0 rfl rfl)
theorem dX4_sealState_26 : decode cX4_sealState 26 = .ok (.goto 4, 3) := dk_167 0 4 (dk_at dksX4_sealState_1 3 rfl rfl)
theorem dX4_sealState_29 : decode cX4_sealState 29 = .ok (.iconst (-1), 1) := dk_2 (dk_at dksX4_sealState_1 6 rfl rfl)
theorem dX4_sealState_30 : decode cX4_sealState 30 = .ok (.ireturn, 1) := dk_172 (dk_at dksX4_sealState_1 7 rfl rfl)
abbrev cX4_isDay : ByteArray := prog_21_method_62_code
def yX4_isDay : MethodName := ⟨RX4, "isDay", "(I)Z"⟩
def dkwX4_isDay_0 : List UInt8 := [26, 133, 9, 20, 0, 247, 184, 0, 124, 172]
abbrev dktX4_isDay_0 : List UInt8 := dkwX4_isDay_0 ++ []
theorem dksX4_isDay_0 : cX4_isDay.data.toList.drop 0 = dktX4_isDay_0 := by decide +kernel
theorem dX4_isDay_0 : decode cX4_isDay 0 = .ok (.iload_n 0, 1) := dk_26 (dk_at dksX4_isDay_0 0 rfl rfl)
theorem dX4_isDay_1 : decode cX4_isDay 1 = .ok (.i2l, 1) := dk_133 (dk_at dksX4_isDay_0 1 rfl rfl)
theorem dX4_isDay_2 : decode cX4_isDay 2 = .ok (.lconst 0, 1) := dk_9 (dk_at dksX4_isDay_0 2 rfl rfl)
theorem dX4_isDay_3 : decode cX4_isDay 3 = .ok (.ldc2_w 247, 3) := dk_20 0 247 (dk_at dksX4_isDay_0 3 rfl rfl)
theorem dX4_isDay_6 : decode cX4_isDay 6 = .ok (.invokestatic 124, 3) := dk_184 0 124 (dk_at dksX4_isDay_0 6 rfl rfl)
theorem dX4_isDay_9 : decode cX4_isDay 9 = .ok (.ireturn, 1) := dk_172 (dk_at dksX4_isDay_0 9 rfl rfl)
abbrev cX4_stateOf : ByteArray := prog_21_method_61_code
def yX4_stateOf : MethodName := ⟨RX4, "stateOf", "(II)I"⟩
def dkwX4_stateOf_1 : List UInt8 := [96, 46, 158, 0, 7, 6, 167, 0, 17, 28, 42, 29, 182, 1, 27, 162, 0, 7, 4, 167, 0, 4, 5, 172]
abbrev dktX4_stateOf_1 : List UInt8 := dkwX4_stateOf_1 ++ []
def dkwX4_stateOf_0 : List UInt8 := [42, 27, 28, 182, 1, 24, 62, 29, 16, 254, 160, 0, 7, 3, 167, 0, 33, 42, 180, 0, 13, 16, 91, 29]
abbrev dktX4_stateOf_0 : List UInt8 := dkwX4_stateOf_0 ++ dktX4_stateOf_1
theorem dksX4_stateOf_0 : cX4_stateOf.data.toList.drop 0 = dktX4_stateOf_0 := by decide +kernel
theorem dksX4_stateOf_1 : cX4_stateOf.data.toList.drop 24 = dktX4_stateOf_1 := dk_seg dksX4_stateOf_0 24 rfl rfl
theorem dX4_stateOf_0 : decode cX4_stateOf 0 = .ok (.aload_n 0, 1) := dk_42 (dk_at dksX4_stateOf_0 0 rfl rfl)
theorem dX4_stateOf_1 : decode cX4_stateOf 1 = .ok (.iload_n 1, 1) := dk_27 (dk_at dksX4_stateOf_0 1 rfl rfl)
theorem dX4_stateOf_2 : decode cX4_stateOf 2 = .ok (.iload_n 2, 1) := dk_28 (dk_at dksX4_stateOf_0 2 rfl rfl)
theorem dX4_stateOf_3 : decode cX4_stateOf 3 = .ok (.invokevirtual 280, 3) := dk_182 1 24 (dk_at dksX4_stateOf_0 3 rfl rfl)
theorem dX4_stateOf_6 : decode cX4_stateOf 6 = .ok (.istore_n 3, 1) := dk_62 (dk_at dksX4_stateOf_0 6 rfl rfl)
theorem dX4_stateOf_7 : decode cX4_stateOf 7 = .ok (.iload_n 3, 1) := dk_29 (dk_at dksX4_stateOf_0 7 rfl rfl)
theorem dX4_stateOf_8 : decode cX4_stateOf 8 = .ok (.bipush (-2), 2) := dk_16 254 (dk_at dksX4_stateOf_0 8 rfl rfl)
theorem dX4_stateOf_10 : decode cX4_stateOf 10 = .ok (.if_icmp .ne 7, 3) := dk_160 0 7 (dk_at dksX4_stateOf_0 10 rfl rfl)
theorem dX4_stateOf_13 : decode cX4_stateOf 13 = .ok (.iconst 0, 1) := dk_3 (dk_at dksX4_stateOf_0 13 rfl rfl)
theorem dX4_stateOf_14 : decode cX4_stateOf 14 = .ok (.goto 33, 3) := dk_167 0 33 (dk_at dksX4_stateOf_0 14 rfl rfl)
theorem dX4_stateOf_17 : decode cX4_stateOf 17 = .ok (.aload_n 0, 1) := dk_42 (dk_at dksX4_stateOf_0 17 rfl rfl)
theorem dX4_stateOf_18 : decode cX4_stateOf 18 = .ok (.getfield 13, 3) := dk_180 0 13 (dk_at dksX4_stateOf_0 18 rfl rfl)
theorem dX4_stateOf_21 : decode cX4_stateOf 21 = .ok (.bipush 91, 2) := dk_16 91 (dk_at dksX4_stateOf_0 21 rfl rfl)
theorem dX4_stateOf_23 : decode cX4_stateOf 23 = .ok (.iload_n 3, 1) := dk_29 (dk_at dksX4_stateOf_0 23 rfl rfl)
theorem dX4_stateOf_24 : decode cX4_stateOf 24 = .ok (.iadd, 1) := dk_96 (dk_at dksX4_stateOf_1 0 rfl rfl)
theorem dX4_stateOf_25 : decode cX4_stateOf 25 = .ok (.iaload, 1) := dk_46 (dk_at dksX4_stateOf_1 1 rfl rfl)
theorem dX4_stateOf_26 : decode cX4_stateOf 26 = .ok (.ifCond .le 7, 3) := dk_158 0 7 (dk_at dksX4_stateOf_1 2 rfl rfl)
theorem dX4_stateOf_29 : decode cX4_stateOf 29 = .ok (.iconst 3, 1) := dk_6 (dk_at dksX4_stateOf_1 5 rfl rfl)
theorem dX4_stateOf_30 : decode cX4_stateOf 30 = .ok (.goto 17, 3) := dk_167 0 17 (dk_at dksX4_stateOf_1 6 rfl rfl)
theorem dX4_stateOf_33 : decode cX4_stateOf 33 = .ok (.iload_n 2, 1) := dk_28 (dk_at dksX4_stateOf_1 9 rfl rfl)
theorem dX4_stateOf_34 : decode cX4_stateOf 34 = .ok (.aload_n 0, 1) := dk_42 (dk_at dksX4_stateOf_1 10 rfl rfl)
theorem dX4_stateOf_35 : decode cX4_stateOf 35 = .ok (.iload_n 3, 1) := dk_29 (dk_at dksX4_stateOf_1 11 rfl rfl)
theorem dX4_stateOf_36 : decode cX4_stateOf 36 = .ok (.invokevirtual 283, 3) := dk_182 1 27 (dk_at dksX4_stateOf_1 12 rfl rfl)
theorem dX4_stateOf_39 : decode cX4_stateOf 39 = .ok (.if_icmp .ge 7, 3) := dk_162 0 7 (dk_at dksX4_stateOf_1 15 rfl rfl)
theorem dX4_stateOf_42 : decode cX4_stateOf 42 = .ok (.iconst 1, 1) := dk_4 (dk_at dksX4_stateOf_1 18 rfl rfl)
theorem dX4_stateOf_43 : decode cX4_stateOf 43 = .ok (.goto 4, 3) := dk_167 0 4 (dk_at dksX4_stateOf_1 19 rfl rfl)
theorem dX4_stateOf_46 : decode cX4_stateOf 46 = .ok (.iconst 2, 1) := dk_5 (dk_at dksX4_stateOf_1 22 rfl rfl)
theorem dX4_stateOf_47 : decode cX4_stateOf 47 = .ok (.ireturn, 1) := dk_172 (dk_at dksX4_stateOf_1 23 rfl rfl)
abbrev cX4_last : ByteArray := prog_21_method_59_code
def yX4_last : MethodName := ⟨RX4, "last", "(II)I"⟩
def dkwX4_last_3 : List UInt8 := [172]
abbrev dktX4_last_3 : List UInt8 := dkwX4_last_3 ++ []
def dkwX4_last_2 : List UInt8 := [16, 31, 21, 4, 96, 46, 28, 163, 0, 8, 21, 4, 167, 0, 4, 29, 62, 132, 4, 1, 167, 255, 194, 29]
abbrev dktX4_last_2 : List UInt8 := dkwX4_last_2 ++ dktX4_last_3
def dkwX4_last_1 : List UInt8 := [96, 46, 27, 160, 0, 36, 42, 180, 0, 13, 16, 61, 21, 4, 96, 46, 4, 160, 0, 22, 42, 180, 0, 13]
abbrev dktX4_last_1 : List UInt8 := dkwX4_last_1 ++ dktX4_last_2
def dkwX4_last_0 : List UInt8 := [16, 254, 62, 3, 54, 4, 21, 4, 42, 180, 0, 13, 3, 46, 162, 0, 57, 42, 180, 0, 13, 4, 21, 4]
abbrev dktX4_last_0 : List UInt8 := dkwX4_last_0 ++ dktX4_last_1
theorem dksX4_last_0 : cX4_last.data.toList.drop 0 = dktX4_last_0 := by decide +kernel
theorem dksX4_last_1 : cX4_last.data.toList.drop 24 = dktX4_last_1 := dk_seg dksX4_last_0 24 rfl rfl
theorem dksX4_last_2 : cX4_last.data.toList.drop 48 = dktX4_last_2 := dk_seg dksX4_last_1 24 rfl rfl
theorem dksX4_last_3 : cX4_last.data.toList.drop 72 = dktX4_last_3 := dk_seg dksX4_last_2 24 rfl rfl
theorem dX4_last_0 : decode cX4_last 0 = .ok (.bipush (-2), 2) := dk_16 254 (dk_at dksX4_last_0 0 rfl rfl)
theorem dX4_last_2 : decode cX4_last 2 = .ok (.istore_n 3, 1) := dk_62 (dk_at dksX4_last_0 2 rfl rfl)
theorem dX4_last_3 : decode cX4_last 3 = .ok (.iconst 0, 1) := dk_3 (dk_at dksX4_last_0 3 rfl rfl)
theorem dX4_last_4 : decode cX4_last 4 = .ok (.istore 4, 2) := dk_54 4 (dk_at dksX4_last_0 4 rfl rfl)
theorem dX4_last_6 : decode cX4_last 6 = .ok (.iload 4, 2) := dk_21 4 (dk_at dksX4_last_0 6 rfl rfl)
theorem dX4_last_8 : decode cX4_last 8 = .ok (.aload_n 0, 1) := dk_42 (dk_at dksX4_last_0 8 rfl rfl)
theorem dX4_last_9 : decode cX4_last 9 = .ok (.getfield 13, 3) := dk_180 0 13 (dk_at dksX4_last_0 9 rfl rfl)
theorem dX4_last_12 : decode cX4_last 12 = .ok (.iconst 0, 1) := dk_3 (dk_at dksX4_last_0 12 rfl rfl)
theorem dX4_last_13 : decode cX4_last 13 = .ok (.iaload, 1) := dk_46 (dk_at dksX4_last_0 13 rfl rfl)
theorem dX4_last_14 : decode cX4_last 14 = .ok (.if_icmp .ge 57, 3) := dk_162 0 57 (dk_at dksX4_last_0 14 rfl rfl)
theorem dX4_last_17 : decode cX4_last 17 = .ok (.aload_n 0, 1) := dk_42 (dk_at dksX4_last_0 17 rfl rfl)
theorem dX4_last_18 : decode cX4_last 18 = .ok (.getfield 13, 3) := dk_180 0 13 (dk_at dksX4_last_0 18 rfl rfl)
theorem dX4_last_21 : decode cX4_last 21 = .ok (.iconst 1, 1) := dk_4 (dk_at dksX4_last_0 21 rfl rfl)
theorem dX4_last_22 : decode cX4_last 22 = .ok (.iload 4, 2) := dk_21 4 (dk_at dksX4_last_0 22 rfl rfl)
theorem dX4_last_24 : decode cX4_last 24 = .ok (.iadd, 1) := dk_96 (dk_at dksX4_last_1 0 rfl rfl)
theorem dX4_last_25 : decode cX4_last 25 = .ok (.iaload, 1) := dk_46 (dk_at dksX4_last_1 1 rfl rfl)
theorem dX4_last_26 : decode cX4_last 26 = .ok (.iload_n 1, 1) := dk_27 (dk_at dksX4_last_1 2 rfl rfl)
theorem dX4_last_27 : decode cX4_last 27 = .ok (.if_icmp .ne 36, 3) := dk_160 0 36 (dk_at dksX4_last_1 3 rfl rfl)
theorem dX4_last_30 : decode cX4_last 30 = .ok (.aload_n 0, 1) := dk_42 (dk_at dksX4_last_1 6 rfl rfl)
theorem dX4_last_31 : decode cX4_last 31 = .ok (.getfield 13, 3) := dk_180 0 13 (dk_at dksX4_last_1 7 rfl rfl)
theorem dX4_last_34 : decode cX4_last 34 = .ok (.bipush 61, 2) := dk_16 61 (dk_at dksX4_last_1 10 rfl rfl)
theorem dX4_last_36 : decode cX4_last 36 = .ok (.iload 4, 2) := dk_21 4 (dk_at dksX4_last_1 12 rfl rfl)
theorem dX4_last_38 : decode cX4_last 38 = .ok (.iadd, 1) := dk_96 (dk_at dksX4_last_1 14 rfl rfl)
theorem dX4_last_39 : decode cX4_last 39 = .ok (.iaload, 1) := dk_46 (dk_at dksX4_last_1 15 rfl rfl)
theorem dX4_last_40 : decode cX4_last 40 = .ok (.iconst 1, 1) := dk_4 (dk_at dksX4_last_1 16 rfl rfl)
theorem dX4_last_41 : decode cX4_last 41 = .ok (.if_icmp .ne 22, 3) := dk_160 0 22 (dk_at dksX4_last_1 17 rfl rfl)
theorem dX4_last_44 : decode cX4_last 44 = .ok (.aload_n 0, 1) := dk_42 (dk_at dksX4_last_1 20 rfl rfl)
theorem dX4_last_45 : decode cX4_last 45 = .ok (.getfield 13, 3) := dk_180 0 13 (dk_at dksX4_last_1 21 rfl rfl)
theorem dX4_last_48 : decode cX4_last 48 = .ok (.bipush 31, 2) := dk_16 31 (dk_at dksX4_last_2 0 rfl rfl)
theorem dX4_last_50 : decode cX4_last 50 = .ok (.iload 4, 2) := dk_21 4 (dk_at dksX4_last_2 2 rfl rfl)
theorem dX4_last_52 : decode cX4_last 52 = .ok (.iadd, 1) := dk_96 (dk_at dksX4_last_2 4 rfl rfl)
theorem dX4_last_53 : decode cX4_last 53 = .ok (.iaload, 1) := dk_46 (dk_at dksX4_last_2 5 rfl rfl)
theorem dX4_last_54 : decode cX4_last 54 = .ok (.iload_n 2, 1) := dk_28 (dk_at dksX4_last_2 6 rfl rfl)
theorem dX4_last_55 : decode cX4_last 55 = .ok (.if_icmp .gt 8, 3) := dk_163 0 8 (dk_at dksX4_last_2 7 rfl rfl)
theorem dX4_last_58 : decode cX4_last 58 = .ok (.iload 4, 2) := dk_21 4 (dk_at dksX4_last_2 10 rfl rfl)
theorem dX4_last_60 : decode cX4_last 60 = .ok (.goto 4, 3) := dk_167 0 4 (dk_at dksX4_last_2 12 rfl rfl)
theorem dX4_last_63 : decode cX4_last 63 = .ok (.iload_n 3, 1) := dk_29 (dk_at dksX4_last_2 15 rfl rfl)
theorem dX4_last_64 : decode cX4_last 64 = .ok (.istore_n 3, 1) := dk_62 (dk_at dksX4_last_2 16 rfl rfl)
theorem dX4_last_65 : decode cX4_last 65 = .ok (.iinc 4 1, 3) := dk_132 4 1 (dk_at dksX4_last_2 17 rfl rfl)
theorem dX4_last_68 : decode cX4_last 68 = .ok (.goto (-62), 3) := dk_167 255 194 (dk_at dksX4_last_2 20 rfl rfl)
theorem dX4_last_71 : decode cX4_last 71 = .ok (.iload_n 3, 1) := dk_29 (dk_at dksX4_last_2 23 rfl rfl)
theorem dX4_last_72 : decode cX4_last 72 = .ok (.ireturn, 1) := dk_172 (dk_at dksX4_last_3 0 rfl rfl)
abbrev cX4_expires : ByteArray := prog_21_method_60_code
def yX4_expires : MethodName := ⟨RX4, "expires", "(I)I"⟩
def dkwX4_expires_1 : List UInt8 := [180, 0, 13, 4, 27, 96, 46, 46, 46, 96, 17, 1, 104, 104, 172]
abbrev dktX4_expires_1 : List UInt8 := dkwX4_expires_1 ++ []
def dkwX4_expires_0 : List UInt8 := [42, 180, 0, 13, 16, 31, 27, 96, 46, 17, 1, 104, 108, 42, 180, 0, 39, 42, 180, 0, 20, 42]
abbrev dktX4_expires_0 : List UInt8 := dkwX4_expires_0 ++ dktX4_expires_1
theorem dksX4_expires_0 : cX4_expires.data.toList.drop 0 = dktX4_expires_0 := by decide +kernel
theorem dksX4_expires_1 : cX4_expires.data.toList.drop 22 = dktX4_expires_1 := dk_seg dksX4_expires_0 22 rfl rfl
theorem dX4_expires_0 : decode cX4_expires 0 = .ok (.aload_n 0, 1) := dk_42 (dk_at dksX4_expires_0 0 rfl rfl)
theorem dX4_expires_1 : decode cX4_expires 1 = .ok (.getfield 13, 3) := dk_180 0 13 (dk_at dksX4_expires_0 1 rfl rfl)
theorem dX4_expires_4 : decode cX4_expires 4 = .ok (.bipush 31, 2) := dk_16 31 (dk_at dksX4_expires_0 4 rfl rfl)
theorem dX4_expires_6 : decode cX4_expires 6 = .ok (.iload_n 1, 1) := dk_27 (dk_at dksX4_expires_0 6 rfl rfl)
theorem dX4_expires_7 : decode cX4_expires 7 = .ok (.iadd, 1) := dk_96 (dk_at dksX4_expires_0 7 rfl rfl)
theorem dX4_expires_8 : decode cX4_expires 8 = .ok (.iaload, 1) := dk_46 (dk_at dksX4_expires_0 8 rfl rfl)
theorem dX4_expires_9 : decode cX4_expires 9 = .ok (.sipush 360, 3) := dk_17 1 104 (dk_at dksX4_expires_0 9 rfl rfl)
theorem dX4_expires_12 : decode cX4_expires 12 = .ok (.idiv, 1) := dk_108 (dk_at dksX4_expires_0 12 rfl rfl)
theorem dX4_expires_13 : decode cX4_expires 13 = .ok (.aload_n 0, 1) := dk_42 (dk_at dksX4_expires_0 13 rfl rfl)
theorem dX4_expires_14 : decode cX4_expires 14 = .ok (.getfield 39, 3) := dk_180 0 39 (dk_at dksX4_expires_0 14 rfl rfl)
theorem dX4_expires_17 : decode cX4_expires 17 = .ok (.aload_n 0, 1) := dk_42 (dk_at dksX4_expires_0 17 rfl rfl)
theorem dX4_expires_18 : decode cX4_expires 18 = .ok (.getfield 20, 3) := dk_180 0 20 (dk_at dksX4_expires_0 18 rfl rfl)
theorem dX4_expires_21 : decode cX4_expires 21 = .ok (.aload_n 0, 1) := dk_42 (dk_at dksX4_expires_0 21 rfl rfl)
theorem dX4_expires_22 : decode cX4_expires 22 = .ok (.getfield 13, 3) := dk_180 0 13 (dk_at dksX4_expires_1 0 rfl rfl)
theorem dX4_expires_25 : decode cX4_expires 25 = .ok (.iconst 1, 1) := dk_4 (dk_at dksX4_expires_1 3 rfl rfl)
theorem dX4_expires_26 : decode cX4_expires 26 = .ok (.iload_n 1, 1) := dk_27 (dk_at dksX4_expires_1 4 rfl rfl)
theorem dX4_expires_27 : decode cX4_expires 27 = .ok (.iadd, 1) := dk_96 (dk_at dksX4_expires_1 5 rfl rfl)
theorem dX4_expires_28 : decode cX4_expires 28 = .ok (.iaload, 1) := dk_46 (dk_at dksX4_expires_1 6 rfl rfl)
theorem dX4_expires_29 : decode cX4_expires 29 = .ok (.iaload, 1) := dk_46 (dk_at dksX4_expires_1 7 rfl rfl)
theorem dX4_expires_30 : decode cX4_expires 30 = .ok (.iaload, 1) := dk_46 (dk_at dksX4_expires_1 8 rfl rfl)
theorem dX4_expires_31 : decode cX4_expires 31 = .ok (.iadd, 1) := dk_96 (dk_at dksX4_expires_1 9 rfl rfl)
theorem dX4_expires_32 : decode cX4_expires 32 = .ok (.sipush 360, 3) := dk_17 1 104 (dk_at dksX4_expires_1 10 rfl rfl)
theorem dX4_expires_35 : decode cX4_expires 35 = .ok (.imul, 1) := dk_104 (dk_at dksX4_expires_1 13 rfl rfl)
theorem dX4_expires_36 : decode cX4_expires 36 = .ok (.ireturn, 1) := dk_172 (dk_at dksX4_expires_1 14 rfl rfl)
abbrev cX4_expiryDay : ByteArray := prog_21_method_64_code
def yX4_expiryDay : MethodName := ⟨RX4, "expiryDay", "(II)I"⟩
def dkwX4_expiryDay_1 : List UInt8 := [28, 182, 1, 33, 4, 160, 0, 16, 42, 42, 27, 28, 182, 1, 24, 182, 1, 27, 167, 0, 5, 16, 254, 172]
abbrev dktX4_expiryDay_1 : List UInt8 := dkwX4_expiryDay_1 ++ []
def dkwX4_expiryDay_0 : List UInt8 := [42, 3, 181, 0, 1, 42, 27, 182, 0, 234, 153, 0, 10, 28, 184, 1, 30, 154, 0, 5, 2, 172, 42, 27]
abbrev dktX4_expiryDay_0 : List UInt8 := dkwX4_expiryDay_0 ++ dktX4_expiryDay_1
theorem dksX4_expiryDay_0 : cX4_expiryDay.data.toList.drop 0 = dktX4_expiryDay_0 := by decide +kernel
theorem dksX4_expiryDay_1 : cX4_expiryDay.data.toList.drop 24 = dktX4_expiryDay_1 := dk_seg dksX4_expiryDay_0 24 rfl rfl
theorem dX4_expiryDay_0 : decode cX4_expiryDay 0 = .ok (.aload_n 0, 1) := dk_42 (dk_at dksX4_expiryDay_0 0 rfl rfl)
theorem dX4_expiryDay_1 : decode cX4_expiryDay 1 = .ok (.iconst 0, 1) := dk_3 (dk_at dksX4_expiryDay_0 1 rfl rfl)
theorem dX4_expiryDay_2 : decode cX4_expiryDay 2 = .ok (.putfield 1, 3) := dk_181 0 1 (dk_at dksX4_expiryDay_0 2 rfl rfl)
theorem dX4_expiryDay_5 : decode cX4_expiryDay 5 = .ok (.aload_n 0, 1) := dk_42 (dk_at dksX4_expiryDay_0 5 rfl rfl)
theorem dX4_expiryDay_6 : decode cX4_expiryDay 6 = .ok (.iload_n 1, 1) := dk_27 (dk_at dksX4_expiryDay_0 6 rfl rfl)
theorem dX4_expiryDay_7 : decode cX4_expiryDay 7 = .ok (.invokevirtual 234, 3) := dk_182 0 234 (dk_at dksX4_expiryDay_0 7 rfl rfl)
theorem dX4_expiryDay_10 : decode cX4_expiryDay 10 = .ok (.ifCond .eq 10, 3) := dk_153 0 10 (dk_at dksX4_expiryDay_0 10 rfl rfl)
theorem dX4_expiryDay_13 : decode cX4_expiryDay 13 = .ok (.iload_n 2, 1) := dk_28 (dk_at dksX4_expiryDay_0 13 rfl rfl)
theorem dX4_expiryDay_14 : decode cX4_expiryDay 14 = .ok (.invokestatic 286, 3) := dk_184 1 30 (dk_at dksX4_expiryDay_0 14 rfl rfl)
theorem dX4_expiryDay_17 : decode cX4_expiryDay 17 = .ok (.ifCond .ne 5, 3) := dk_154 0 5 (dk_at dksX4_expiryDay_0 17 rfl rfl)
theorem dX4_expiryDay_20 : decode cX4_expiryDay 20 = .ok (.iconst (-1), 1) := dk_2 (dk_at dksX4_expiryDay_0 20 rfl rfl)
theorem dX4_expiryDay_21 : decode cX4_expiryDay 21 = .ok (.ireturn, 1) := dk_172 (dk_at dksX4_expiryDay_0 21 rfl rfl)
theorem dX4_expiryDay_22 : decode cX4_expiryDay 22 = .ok (.aload_n 0, 1) := dk_42 (dk_at dksX4_expiryDay_0 22 rfl rfl)
theorem dX4_expiryDay_23 : decode cX4_expiryDay 23 = .ok (.iload_n 1, 1) := dk_27 (dk_at dksX4_expiryDay_0 23 rfl rfl)
theorem dX4_expiryDay_24 : decode cX4_expiryDay 24 = .ok (.iload_n 2, 1) := dk_28 (dk_at dksX4_expiryDay_1 0 rfl rfl)
theorem dX4_expiryDay_25 : decode cX4_expiryDay 25 = .ok (.invokevirtual 289, 3) := dk_182 1 33 (dk_at dksX4_expiryDay_1 1 rfl rfl)
theorem dX4_expiryDay_28 : decode cX4_expiryDay 28 = .ok (.iconst 1, 1) := dk_4 (dk_at dksX4_expiryDay_1 4 rfl rfl)
theorem dX4_expiryDay_29 : decode cX4_expiryDay 29 = .ok (.if_icmp .ne 16, 3) := dk_160 0 16 (dk_at dksX4_expiryDay_1 5 rfl rfl)
theorem dX4_expiryDay_32 : decode cX4_expiryDay 32 = .ok (.aload_n 0, 1) := dk_42 (dk_at dksX4_expiryDay_1 8 rfl rfl)
theorem dX4_expiryDay_33 : decode cX4_expiryDay 33 = .ok (.aload_n 0, 1) := dk_42 (dk_at dksX4_expiryDay_1 9 rfl rfl)
theorem dX4_expiryDay_34 : decode cX4_expiryDay 34 = .ok (.iload_n 1, 1) := dk_27 (dk_at dksX4_expiryDay_1 10 rfl rfl)
theorem dX4_expiryDay_35 : decode cX4_expiryDay 35 = .ok (.iload_n 2, 1) := dk_28 (dk_at dksX4_expiryDay_1 11 rfl rfl)
theorem dX4_expiryDay_36 : decode cX4_expiryDay 36 = .ok (.invokevirtual 280, 3) := dk_182 1 24 (dk_at dksX4_expiryDay_1 12 rfl rfl)
theorem dX4_expiryDay_39 : decode cX4_expiryDay 39 = .ok (.invokevirtual 283, 3) := dk_182 1 27 (dk_at dksX4_expiryDay_1 15 rfl rfl)
theorem dX4_expiryDay_42 : decode cX4_expiryDay 42 = .ok (.goto 5, 3) := dk_167 0 5 (dk_at dksX4_expiryDay_1 18 rfl rfl)
theorem dX4_expiryDay_45 : decode cX4_expiryDay 45 = .ok (.bipush (-2), 2) := dk_16 254 (dk_at dksX4_expiryDay_1 21 rfl rfl)
theorem dX4_expiryDay_47 : decode cX4_expiryDay 47 = .ok (.ireturn, 1) := dk_172 (dk_at dksX4_expiryDay_1 23 rfl rfl)
abbrev cX4_scalesWith : ByteArray := prog_21_method_65_code
def yX4_scalesWith : MethodName := ⟨RX4, "scalesWith", "(II)I"⟩
def dkwX4_scalesWith_2 : List UInt8 := [27, 160, 0, 10, 4, 21, 4, 120, 167, 0, 4, 3, 128, 62, 132, 4, 1, 167, 255, 222, 29, 172]
abbrev dktX4_scalesWith_2 : List UInt8 := dkwX4_scalesWith_2 ++ []
def dkwX4_scalesWith_1 : List UInt8 := [2, 172, 3, 62, 3, 54, 4, 21, 4, 42, 180, 0, 218, 162, 0, 31, 29, 42, 21, 4, 28, 182, 1, 33]
abbrev dktX4_scalesWith_1 : List UInt8 := dkwX4_scalesWith_1 ++ dktX4_scalesWith_2
def dkwX4_scalesWith_0 : List UInt8 := [42, 3, 181, 0, 1, 27, 133, 9, 20, 1, 36, 184, 0, 124, 153, 0, 10, 28, 184, 1, 30, 154, 0, 5]
abbrev dktX4_scalesWith_0 : List UInt8 := dkwX4_scalesWith_0 ++ dktX4_scalesWith_1
theorem dksX4_scalesWith_0 : cX4_scalesWith.data.toList.drop 0 = dktX4_scalesWith_0 := by decide +kernel
theorem dksX4_scalesWith_1 : cX4_scalesWith.data.toList.drop 24 = dktX4_scalesWith_1 := dk_seg dksX4_scalesWith_0 24 rfl rfl
theorem dksX4_scalesWith_2 : cX4_scalesWith.data.toList.drop 48 = dktX4_scalesWith_2 := dk_seg dksX4_scalesWith_1 24 rfl rfl
theorem dX4_scalesWith_0 : decode cX4_scalesWith 0 = .ok (.aload_n 0, 1) := dk_42 (dk_at dksX4_scalesWith_0 0 rfl rfl)
theorem dX4_scalesWith_1 : decode cX4_scalesWith 1 = .ok (.iconst 0, 1) := dk_3 (dk_at dksX4_scalesWith_0 1 rfl rfl)
theorem dX4_scalesWith_2 : decode cX4_scalesWith 2 = .ok (.putfield 1, 3) := dk_181 0 1 (dk_at dksX4_scalesWith_0 2 rfl rfl)
theorem dX4_scalesWith_5 : decode cX4_scalesWith 5 = .ok (.iload_n 1, 1) := dk_27 (dk_at dksX4_scalesWith_0 5 rfl rfl)
theorem dX4_scalesWith_6 : decode cX4_scalesWith 6 = .ok (.i2l, 1) := dk_133 (dk_at dksX4_scalesWith_0 6 rfl rfl)
theorem dX4_scalesWith_7 : decode cX4_scalesWith 7 = .ok (.lconst 0, 1) := dk_9 (dk_at dksX4_scalesWith_0 7 rfl rfl)
theorem dX4_scalesWith_8 : decode cX4_scalesWith 8 = .ok (.ldc2_w 292, 3) := dk_20 1 36 (dk_at dksX4_scalesWith_0 8 rfl rfl)
theorem dX4_scalesWith_11 : decode cX4_scalesWith 11 = .ok (.invokestatic 124, 3) := dk_184 0 124 (dk_at dksX4_scalesWith_0 11 rfl rfl)
theorem dX4_scalesWith_14 : decode cX4_scalesWith 14 = .ok (.ifCond .eq 10, 3) := dk_153 0 10 (dk_at dksX4_scalesWith_0 14 rfl rfl)
theorem dX4_scalesWith_17 : decode cX4_scalesWith 17 = .ok (.iload_n 2, 1) := dk_28 (dk_at dksX4_scalesWith_0 17 rfl rfl)
theorem dX4_scalesWith_18 : decode cX4_scalesWith 18 = .ok (.invokestatic 286, 3) := dk_184 1 30 (dk_at dksX4_scalesWith_0 18 rfl rfl)
theorem dX4_scalesWith_21 : decode cX4_scalesWith 21 = .ok (.ifCond .ne 5, 3) := dk_154 0 5 (dk_at dksX4_scalesWith_0 21 rfl rfl)
theorem dX4_scalesWith_24 : decode cX4_scalesWith 24 = .ok (.iconst (-1), 1) := dk_2 (dk_at dksX4_scalesWith_1 0 rfl rfl)
theorem dX4_scalesWith_25 : decode cX4_scalesWith 25 = .ok (.ireturn, 1) := dk_172 (dk_at dksX4_scalesWith_1 1 rfl rfl)
theorem dX4_scalesWith_26 : decode cX4_scalesWith 26 = .ok (.iconst 0, 1) := dk_3 (dk_at dksX4_scalesWith_1 2 rfl rfl)
theorem dX4_scalesWith_27 : decode cX4_scalesWith 27 = .ok (.istore_n 3, 1) := dk_62 (dk_at dksX4_scalesWith_1 3 rfl rfl)
theorem dX4_scalesWith_28 : decode cX4_scalesWith 28 = .ok (.iconst 0, 1) := dk_3 (dk_at dksX4_scalesWith_1 4 rfl rfl)
theorem dX4_scalesWith_29 : decode cX4_scalesWith 29 = .ok (.istore 4, 2) := dk_54 4 (dk_at dksX4_scalesWith_1 5 rfl rfl)
theorem dX4_scalesWith_31 : decode cX4_scalesWith 31 = .ok (.iload 4, 2) := dk_21 4 (dk_at dksX4_scalesWith_1 7 rfl rfl)
theorem dX4_scalesWith_33 : decode cX4_scalesWith 33 = .ok (.aload_n 0, 1) := dk_42 (dk_at dksX4_scalesWith_1 9 rfl rfl)
theorem dX4_scalesWith_34 : decode cX4_scalesWith 34 = .ok (.getfield 218, 3) := dk_180 0 218 (dk_at dksX4_scalesWith_1 10 rfl rfl)
theorem dX4_scalesWith_37 : decode cX4_scalesWith 37 = .ok (.if_icmp .ge 31, 3) := dk_162 0 31 (dk_at dksX4_scalesWith_1 13 rfl rfl)
theorem dX4_scalesWith_40 : decode cX4_scalesWith 40 = .ok (.iload_n 3, 1) := dk_29 (dk_at dksX4_scalesWith_1 16 rfl rfl)
theorem dX4_scalesWith_41 : decode cX4_scalesWith 41 = .ok (.aload_n 0, 1) := dk_42 (dk_at dksX4_scalesWith_1 17 rfl rfl)
theorem dX4_scalesWith_42 : decode cX4_scalesWith 42 = .ok (.iload 4, 2) := dk_21 4 (dk_at dksX4_scalesWith_1 18 rfl rfl)
theorem dX4_scalesWith_44 : decode cX4_scalesWith 44 = .ok (.iload_n 2, 1) := dk_28 (dk_at dksX4_scalesWith_1 20 rfl rfl)
theorem dX4_scalesWith_45 : decode cX4_scalesWith 45 = .ok (.invokevirtual 289, 3) := dk_182 1 33 (dk_at dksX4_scalesWith_1 21 rfl rfl)
theorem dX4_scalesWith_48 : decode cX4_scalesWith 48 = .ok (.iload_n 1, 1) := dk_27 (dk_at dksX4_scalesWith_2 0 rfl rfl)
theorem dX4_scalesWith_49 : decode cX4_scalesWith 49 = .ok (.if_icmp .ne 10, 3) := dk_160 0 10 (dk_at dksX4_scalesWith_2 1 rfl rfl)
theorem dX4_scalesWith_52 : decode cX4_scalesWith 52 = .ok (.iconst 1, 1) := dk_4 (dk_at dksX4_scalesWith_2 4 rfl rfl)
theorem dX4_scalesWith_53 : decode cX4_scalesWith 53 = .ok (.iload 4, 2) := dk_21 4 (dk_at dksX4_scalesWith_2 5 rfl rfl)
theorem dX4_scalesWith_55 : decode cX4_scalesWith 55 = .ok (.ishl, 1) := dk_120 (dk_at dksX4_scalesWith_2 7 rfl rfl)
theorem dX4_scalesWith_56 : decode cX4_scalesWith 56 = .ok (.goto 4, 3) := dk_167 0 4 (dk_at dksX4_scalesWith_2 8 rfl rfl)
theorem dX4_scalesWith_59 : decode cX4_scalesWith 59 = .ok (.iconst 0, 1) := dk_3 (dk_at dksX4_scalesWith_2 11 rfl rfl)
theorem dX4_scalesWith_60 : decode cX4_scalesWith 60 = .ok (.ior, 1) := dk_128 (dk_at dksX4_scalesWith_2 12 rfl rfl)
theorem dX4_scalesWith_61 : decode cX4_scalesWith 61 = .ok (.istore_n 3, 1) := dk_62 (dk_at dksX4_scalesWith_2 13 rfl rfl)
theorem dX4_scalesWith_62 : decode cX4_scalesWith 62 = .ok (.iinc 4 1, 3) := dk_132 4 1 (dk_at dksX4_scalesWith_2 14 rfl rfl)
theorem dX4_scalesWith_65 : decode cX4_scalesWith 65 = .ok (.goto (-34), 3) := dk_167 255 222 (dk_at dksX4_scalesWith_2 17 rfl rfl)
theorem dX4_scalesWith_68 : decode cX4_scalesWith 68 = .ok (.iload_n 3, 1) := dk_29 (dk_at dksX4_scalesWith_2 20 rfl rfl)
theorem dX4_scalesWith_69 : decode cX4_scalesWith 69 = .ok (.ireturn, 1) := dk_172 (dk_at dksX4_scalesWith_2 21 rfl rfl)
abbrev cX4_risk : ByteArray := prog_21_method_67_code
def yX4_risk : MethodName := ⟨RX4, "risk", "(II)I"⟩
def dkwX4_risk_1 : List UInt8 := [182, 1, 38, 167, 0, 4, 2, 172]
abbrev dktX4_risk_1 : List UInt8 := dkwX4_risk_1 ++ []
def dkwX4_risk_0 : List UInt8 := [42, 3, 181, 0, 1, 42, 27, 182, 0, 234, 153, 0, 19, 28, 184, 1, 30, 153, 0, 12, 42, 27, 28]
abbrev dktX4_risk_0 : List UInt8 := dkwX4_risk_0 ++ dktX4_risk_1
theorem dksX4_risk_0 : cX4_risk.data.toList.drop 0 = dktX4_risk_0 := by decide +kernel
theorem dksX4_risk_1 : cX4_risk.data.toList.drop 23 = dktX4_risk_1 := dk_seg dksX4_risk_0 23 rfl rfl
theorem dX4_risk_0 : decode cX4_risk 0 = .ok (.aload_n 0, 1) := dk_42 (dk_at dksX4_risk_0 0 rfl rfl)
theorem dX4_risk_1 : decode cX4_risk 1 = .ok (.iconst 0, 1) := dk_3 (dk_at dksX4_risk_0 1 rfl rfl)
theorem dX4_risk_2 : decode cX4_risk 2 = .ok (.putfield 1, 3) := dk_181 0 1 (dk_at dksX4_risk_0 2 rfl rfl)
theorem dX4_risk_5 : decode cX4_risk 5 = .ok (.aload_n 0, 1) := dk_42 (dk_at dksX4_risk_0 5 rfl rfl)
theorem dX4_risk_6 : decode cX4_risk 6 = .ok (.iload_n 1, 1) := dk_27 (dk_at dksX4_risk_0 6 rfl rfl)
theorem dX4_risk_7 : decode cX4_risk 7 = .ok (.invokevirtual 234, 3) := dk_182 0 234 (dk_at dksX4_risk_0 7 rfl rfl)
theorem dX4_risk_10 : decode cX4_risk 10 = .ok (.ifCond .eq 19, 3) := dk_153 0 19 (dk_at dksX4_risk_0 10 rfl rfl)
theorem dX4_risk_13 : decode cX4_risk 13 = .ok (.iload_n 2, 1) := dk_28 (dk_at dksX4_risk_0 13 rfl rfl)
theorem dX4_risk_14 : decode cX4_risk 14 = .ok (.invokestatic 286, 3) := dk_184 1 30 (dk_at dksX4_risk_0 14 rfl rfl)
theorem dX4_risk_17 : decode cX4_risk 17 = .ok (.ifCond .eq 12, 3) := dk_153 0 12 (dk_at dksX4_risk_0 17 rfl rfl)
theorem dX4_risk_20 : decode cX4_risk 20 = .ok (.aload_n 0, 1) := dk_42 (dk_at dksX4_risk_0 20 rfl rfl)
theorem dX4_risk_21 : decode cX4_risk 21 = .ok (.iload_n 1, 1) := dk_27 (dk_at dksX4_risk_0 21 rfl rfl)
theorem dX4_risk_22 : decode cX4_risk 22 = .ok (.iload_n 2, 1) := dk_28 (dk_at dksX4_risk_0 22 rfl rfl)
theorem dX4_risk_23 : decode cX4_risk 23 = .ok (.invokevirtual 294, 3) := dk_182 1 38 (dk_at dksX4_risk_1 0 rfl rfl)
theorem dX4_risk_26 : decode cX4_risk 26 = .ok (.goto 4, 3) := dk_167 0 4 (dk_at dksX4_risk_1 3 rfl rfl)
theorem dX4_risk_29 : decode cX4_risk 29 = .ok (.iconst (-1), 1) := dk_2 (dk_at dksX4_risk_1 6 rfl rfl)
theorem dX4_risk_30 : decode cX4_risk 30 = .ok (.ireturn, 1) := dk_172 (dk_at dksX4_risk_1 7 rfl rfl)
abbrev cX4_riskOf : ByteArray := prog_21_method_66_code
def yX4_riskOf : MethodName := ⟨RX4, "riskOf", "(II)I"⟩
def dkwX4_riskOf_7 : List UInt8 := [160, 0, 7, 4, 167, 0, 4, 3, 96, 54, 4, 132, 5, 1, 167, 255, 201, 21, 4, 172]
abbrev dktX4_riskOf_7 : List UInt8 := dkwX4_riskOf_7 ++ []
def dkwX4_riskOf_6 : List UInt8 := [180, 0, 17, 21, 5, 46, 42, 180, 0, 17, 27, 46, 160, 0, 18, 42, 21, 5, 28, 182, 1, 33, 6]
abbrev dktX4_riskOf_6 : List UInt8 := dkwX4_riskOf_6 ++ dktX4_riskOf_7
def dkwX4_riskOf_5 : List UInt8 := [167, 255, 178, 3, 54, 5, 21, 5, 42, 180, 0, 218, 162, 0, 52, 21, 4, 21, 5, 27, 159, 0, 34, 42]
abbrev dktX4_riskOf_5 : List UInt8 := dkwX4_riskOf_5 ++ dktX4_riskOf_6
def dkwX4_riskOf_4 : List UInt8 := [180, 0, 13, 16, 91, 21, 5, 96, 46, 158, 0, 7, 4, 167, 0, 4, 3, 96, 54, 4, 132, 5, 1]
abbrev dktX4_riskOf_4 : List UInt8 := dkwX4_riskOf_4 ++ dktX4_riskOf_5
def dkwX4_riskOf_3 : List UInt8 := [21, 5, 96, 46, 4, 160, 0, 34, 42, 180, 0, 13, 16, 31, 21, 5, 96, 46, 28, 163, 0, 20, 42]
abbrev dktX4_riskOf_3 : List UInt8 := dkwX4_riskOf_3 ++ dktX4_riskOf_4
def dkwX4_riskOf_2 : List UInt8 := [162, 0, 73, 21, 4, 42, 180, 0, 13, 4, 21, 5, 96, 46, 27, 160, 0, 48, 42, 180, 0, 13, 16, 61]
abbrev dktX4_riskOf_2 : List UInt8 := dkwX4_riskOf_2 ++ dktX4_riskOf_3
def dkwX4_riskOf_1 : List UInt8 := [29, 5, 160, 0, 7, 6, 167, 0, 5, 16, 6, 54, 4, 3, 54, 5, 21, 5, 42, 180, 0, 13, 3, 46]
abbrev dktX4_riskOf_1 : List UInt8 := dkwX4_riskOf_1 ++ dktX4_riskOf_2
def dkwX4_riskOf_0 : List UInt8 := [42, 27, 28, 182, 1, 33, 62, 29, 154, 0, 7, 7, 167, 0, 23, 29, 4, 160, 0, 7, 4, 167, 0, 14]
abbrev dktX4_riskOf_0 : List UInt8 := dkwX4_riskOf_0 ++ dktX4_riskOf_1
theorem dksX4_riskOf_0 : cX4_riskOf.data.toList.drop 0 = dktX4_riskOf_0 := by decide +kernel
theorem dksX4_riskOf_1 : cX4_riskOf.data.toList.drop 24 = dktX4_riskOf_1 := dk_seg dksX4_riskOf_0 24 rfl rfl
theorem dksX4_riskOf_2 : cX4_riskOf.data.toList.drop 48 = dktX4_riskOf_2 := dk_seg dksX4_riskOf_1 24 rfl rfl
theorem dksX4_riskOf_3 : cX4_riskOf.data.toList.drop 72 = dktX4_riskOf_3 := dk_seg dksX4_riskOf_2 24 rfl rfl
theorem dksX4_riskOf_4 : cX4_riskOf.data.toList.drop 95 = dktX4_riskOf_4 := dk_seg dksX4_riskOf_3 23 rfl rfl
theorem dksX4_riskOf_5 : cX4_riskOf.data.toList.drop 118 = dktX4_riskOf_5 := dk_seg dksX4_riskOf_4 23 rfl rfl
theorem dksX4_riskOf_6 : cX4_riskOf.data.toList.drop 142 = dktX4_riskOf_6 := dk_seg dksX4_riskOf_5 24 rfl rfl
theorem dksX4_riskOf_7 : cX4_riskOf.data.toList.drop 165 = dktX4_riskOf_7 := dk_seg dksX4_riskOf_6 23 rfl rfl
theorem dX4_riskOf_0 : decode cX4_riskOf 0 = .ok (.aload_n 0, 1) := dk_42 (dk_at dksX4_riskOf_0 0 rfl rfl)
theorem dX4_riskOf_1 : decode cX4_riskOf 1 = .ok (.iload_n 1, 1) := dk_27 (dk_at dksX4_riskOf_0 1 rfl rfl)
theorem dX4_riskOf_2 : decode cX4_riskOf 2 = .ok (.iload_n 2, 1) := dk_28 (dk_at dksX4_riskOf_0 2 rfl rfl)
theorem dX4_riskOf_3 : decode cX4_riskOf 3 = .ok (.invokevirtual 289, 3) := dk_182 1 33 (dk_at dksX4_riskOf_0 3 rfl rfl)
theorem dX4_riskOf_6 : decode cX4_riskOf 6 = .ok (.istore_n 3, 1) := dk_62 (dk_at dksX4_riskOf_0 6 rfl rfl)
theorem dX4_riskOf_7 : decode cX4_riskOf 7 = .ok (.iload_n 3, 1) := dk_29 (dk_at dksX4_riskOf_0 7 rfl rfl)
theorem dX4_riskOf_8 : decode cX4_riskOf 8 = .ok (.ifCond .ne 7, 3) := dk_154 0 7 (dk_at dksX4_riskOf_0 8 rfl rfl)
theorem dX4_riskOf_11 : decode cX4_riskOf 11 = .ok (.iconst 4, 1) := dk_7 (dk_at dksX4_riskOf_0 11 rfl rfl)
theorem dX4_riskOf_12 : decode cX4_riskOf 12 = .ok (.goto 23, 3) := dk_167 0 23 (dk_at dksX4_riskOf_0 12 rfl rfl)
theorem dX4_riskOf_15 : decode cX4_riskOf 15 = .ok (.iload_n 3, 1) := dk_29 (dk_at dksX4_riskOf_0 15 rfl rfl)
theorem dX4_riskOf_16 : decode cX4_riskOf 16 = .ok (.iconst 1, 1) := dk_4 (dk_at dksX4_riskOf_0 16 rfl rfl)
theorem dX4_riskOf_17 : decode cX4_riskOf 17 = .ok (.if_icmp .ne 7, 3) := dk_160 0 7 (dk_at dksX4_riskOf_0 17 rfl rfl)
theorem dX4_riskOf_20 : decode cX4_riskOf 20 = .ok (.iconst 1, 1) := dk_4 (dk_at dksX4_riskOf_0 20 rfl rfl)
theorem dX4_riskOf_21 : decode cX4_riskOf 21 = .ok (.goto 14, 3) := dk_167 0 14 (dk_at dksX4_riskOf_0 21 rfl rfl)
theorem dX4_riskOf_24 : decode cX4_riskOf 24 = .ok (.iload_n 3, 1) := dk_29 (dk_at dksX4_riskOf_1 0 rfl rfl)
theorem dX4_riskOf_25 : decode cX4_riskOf 25 = .ok (.iconst 2, 1) := dk_5 (dk_at dksX4_riskOf_1 1 rfl rfl)
theorem dX4_riskOf_26 : decode cX4_riskOf 26 = .ok (.if_icmp .ne 7, 3) := dk_160 0 7 (dk_at dksX4_riskOf_1 2 rfl rfl)
theorem dX4_riskOf_29 : decode cX4_riskOf 29 = .ok (.iconst 3, 1) := dk_6 (dk_at dksX4_riskOf_1 5 rfl rfl)
theorem dX4_riskOf_30 : decode cX4_riskOf 30 = .ok (.goto 5, 3) := dk_167 0 5 (dk_at dksX4_riskOf_1 6 rfl rfl)
theorem dX4_riskOf_33 : decode cX4_riskOf 33 = .ok (.bipush 6, 2) := dk_16 6 (dk_at dksX4_riskOf_1 9 rfl rfl)
theorem dX4_riskOf_35 : decode cX4_riskOf 35 = .ok (.istore 4, 2) := dk_54 4 (dk_at dksX4_riskOf_1 11 rfl rfl)
theorem dX4_riskOf_37 : decode cX4_riskOf 37 = .ok (.iconst 0, 1) := dk_3 (dk_at dksX4_riskOf_1 13 rfl rfl)
theorem dX4_riskOf_38 : decode cX4_riskOf 38 = .ok (.istore 5, 2) := dk_54 5 (dk_at dksX4_riskOf_1 14 rfl rfl)
theorem dX4_riskOf_40 : decode cX4_riskOf 40 = .ok (.iload 5, 2) := dk_21 5 (dk_at dksX4_riskOf_1 16 rfl rfl)
theorem dX4_riskOf_42 : decode cX4_riskOf 42 = .ok (.aload_n 0, 1) := dk_42 (dk_at dksX4_riskOf_1 18 rfl rfl)
theorem dX4_riskOf_43 : decode cX4_riskOf 43 = .ok (.getfield 13, 3) := dk_180 0 13 (dk_at dksX4_riskOf_1 19 rfl rfl)
theorem dX4_riskOf_46 : decode cX4_riskOf 46 = .ok (.iconst 0, 1) := dk_3 (dk_at dksX4_riskOf_1 22 rfl rfl)
theorem dX4_riskOf_47 : decode cX4_riskOf 47 = .ok (.iaload, 1) := dk_46 (dk_at dksX4_riskOf_1 23 rfl rfl)
theorem dX4_riskOf_48 : decode cX4_riskOf 48 = .ok (.if_icmp .ge 73, 3) := dk_162 0 73 (dk_at dksX4_riskOf_2 0 rfl rfl)
theorem dX4_riskOf_51 : decode cX4_riskOf 51 = .ok (.iload 4, 2) := dk_21 4 (dk_at dksX4_riskOf_2 3 rfl rfl)
theorem dX4_riskOf_53 : decode cX4_riskOf 53 = .ok (.aload_n 0, 1) := dk_42 (dk_at dksX4_riskOf_2 5 rfl rfl)
theorem dX4_riskOf_54 : decode cX4_riskOf 54 = .ok (.getfield 13, 3) := dk_180 0 13 (dk_at dksX4_riskOf_2 6 rfl rfl)
theorem dX4_riskOf_57 : decode cX4_riskOf 57 = .ok (.iconst 1, 1) := dk_4 (dk_at dksX4_riskOf_2 9 rfl rfl)
theorem dX4_riskOf_58 : decode cX4_riskOf 58 = .ok (.iload 5, 2) := dk_21 5 (dk_at dksX4_riskOf_2 10 rfl rfl)
theorem dX4_riskOf_60 : decode cX4_riskOf 60 = .ok (.iadd, 1) := dk_96 (dk_at dksX4_riskOf_2 12 rfl rfl)
theorem dX4_riskOf_61 : decode cX4_riskOf 61 = .ok (.iaload, 1) := dk_46 (dk_at dksX4_riskOf_2 13 rfl rfl)
theorem dX4_riskOf_62 : decode cX4_riskOf 62 = .ok (.iload_n 1, 1) := dk_27 (dk_at dksX4_riskOf_2 14 rfl rfl)
theorem dX4_riskOf_63 : decode cX4_riskOf 63 = .ok (.if_icmp .ne 48, 3) := dk_160 0 48 (dk_at dksX4_riskOf_2 15 rfl rfl)
theorem dX4_riskOf_66 : decode cX4_riskOf 66 = .ok (.aload_n 0, 1) := dk_42 (dk_at dksX4_riskOf_2 18 rfl rfl)
theorem dX4_riskOf_67 : decode cX4_riskOf 67 = .ok (.getfield 13, 3) := dk_180 0 13 (dk_at dksX4_riskOf_2 19 rfl rfl)
theorem dX4_riskOf_70 : decode cX4_riskOf 70 = .ok (.bipush 61, 2) := dk_16 61 (dk_at dksX4_riskOf_2 22 rfl rfl)
theorem dX4_riskOf_72 : decode cX4_riskOf 72 = .ok (.iload 5, 2) := dk_21 5 (dk_at dksX4_riskOf_3 0 rfl rfl)
theorem dX4_riskOf_74 : decode cX4_riskOf 74 = .ok (.iadd, 1) := dk_96 (dk_at dksX4_riskOf_3 2 rfl rfl)
theorem dX4_riskOf_75 : decode cX4_riskOf 75 = .ok (.iaload, 1) := dk_46 (dk_at dksX4_riskOf_3 3 rfl rfl)
theorem dX4_riskOf_76 : decode cX4_riskOf 76 = .ok (.iconst 1, 1) := dk_4 (dk_at dksX4_riskOf_3 4 rfl rfl)
theorem dX4_riskOf_77 : decode cX4_riskOf 77 = .ok (.if_icmp .ne 34, 3) := dk_160 0 34 (dk_at dksX4_riskOf_3 5 rfl rfl)
theorem dX4_riskOf_80 : decode cX4_riskOf 80 = .ok (.aload_n 0, 1) := dk_42 (dk_at dksX4_riskOf_3 8 rfl rfl)
theorem dX4_riskOf_81 : decode cX4_riskOf 81 = .ok (.getfield 13, 3) := dk_180 0 13 (dk_at dksX4_riskOf_3 9 rfl rfl)
theorem dX4_riskOf_84 : decode cX4_riskOf 84 = .ok (.bipush 31, 2) := dk_16 31 (dk_at dksX4_riskOf_3 12 rfl rfl)
theorem dX4_riskOf_86 : decode cX4_riskOf 86 = .ok (.iload 5, 2) := dk_21 5 (dk_at dksX4_riskOf_3 14 rfl rfl)
theorem dX4_riskOf_88 : decode cX4_riskOf 88 = .ok (.iadd, 1) := dk_96 (dk_at dksX4_riskOf_3 16 rfl rfl)
theorem dX4_riskOf_89 : decode cX4_riskOf 89 = .ok (.iaload, 1) := dk_46 (dk_at dksX4_riskOf_3 17 rfl rfl)
theorem dX4_riskOf_90 : decode cX4_riskOf 90 = .ok (.iload_n 2, 1) := dk_28 (dk_at dksX4_riskOf_3 18 rfl rfl)
theorem dX4_riskOf_91 : decode cX4_riskOf 91 = .ok (.if_icmp .gt 20, 3) := dk_163 0 20 (dk_at dksX4_riskOf_3 19 rfl rfl)
theorem dX4_riskOf_94 : decode cX4_riskOf 94 = .ok (.aload_n 0, 1) := dk_42 (dk_at dksX4_riskOf_3 22 rfl rfl)
theorem dX4_riskOf_95 : decode cX4_riskOf 95 = .ok (.getfield 13, 3) := dk_180 0 13 (dk_at dksX4_riskOf_4 0 rfl rfl)
theorem dX4_riskOf_98 : decode cX4_riskOf 98 = .ok (.bipush 91, 2) := dk_16 91 (dk_at dksX4_riskOf_4 3 rfl rfl)
theorem dX4_riskOf_100 : decode cX4_riskOf 100 = .ok (.iload 5, 2) := dk_21 5 (dk_at dksX4_riskOf_4 5 rfl rfl)
theorem dX4_riskOf_102 : decode cX4_riskOf 102 = .ok (.iadd, 1) := dk_96 (dk_at dksX4_riskOf_4 7 rfl rfl)
theorem dX4_riskOf_103 : decode cX4_riskOf 103 = .ok (.iaload, 1) := dk_46 (dk_at dksX4_riskOf_4 8 rfl rfl)
theorem dX4_riskOf_104 : decode cX4_riskOf 104 = .ok (.ifCond .le 7, 3) := dk_158 0 7 (dk_at dksX4_riskOf_4 9 rfl rfl)
theorem dX4_riskOf_107 : decode cX4_riskOf 107 = .ok (.iconst 1, 1) := dk_4 (dk_at dksX4_riskOf_4 12 rfl rfl)
theorem dX4_riskOf_108 : decode cX4_riskOf 108 = .ok (.goto 4, 3) := dk_167 0 4 (dk_at dksX4_riskOf_4 13 rfl rfl)
theorem dX4_riskOf_111 : decode cX4_riskOf 111 = .ok (.iconst 0, 1) := dk_3 (dk_at dksX4_riskOf_4 16 rfl rfl)
theorem dX4_riskOf_112 : decode cX4_riskOf 112 = .ok (.iadd, 1) := dk_96 (dk_at dksX4_riskOf_4 17 rfl rfl)
theorem dX4_riskOf_113 : decode cX4_riskOf 113 = .ok (.istore 4, 2) := dk_54 4 (dk_at dksX4_riskOf_4 18 rfl rfl)
theorem dX4_riskOf_115 : decode cX4_riskOf 115 = .ok (.iinc 5 1, 3) := dk_132 5 1 (dk_at dksX4_riskOf_4 20 rfl rfl)
theorem dX4_riskOf_118 : decode cX4_riskOf 118 = .ok (.goto (-78), 3) := dk_167 255 178 (dk_at dksX4_riskOf_5 0 rfl rfl)
theorem dX4_riskOf_121 : decode cX4_riskOf 121 = .ok (.iconst 0, 1) := dk_3 (dk_at dksX4_riskOf_5 3 rfl rfl)
theorem dX4_riskOf_122 : decode cX4_riskOf 122 = .ok (.istore 5, 2) := dk_54 5 (dk_at dksX4_riskOf_5 4 rfl rfl)
theorem dX4_riskOf_124 : decode cX4_riskOf 124 = .ok (.iload 5, 2) := dk_21 5 (dk_at dksX4_riskOf_5 6 rfl rfl)
theorem dX4_riskOf_126 : decode cX4_riskOf 126 = .ok (.aload_n 0, 1) := dk_42 (dk_at dksX4_riskOf_5 8 rfl rfl)
theorem dX4_riskOf_127 : decode cX4_riskOf 127 = .ok (.getfield 218, 3) := dk_180 0 218 (dk_at dksX4_riskOf_5 9 rfl rfl)
theorem dX4_riskOf_130 : decode cX4_riskOf 130 = .ok (.if_icmp .ge 52, 3) := dk_162 0 52 (dk_at dksX4_riskOf_5 12 rfl rfl)
theorem dX4_riskOf_133 : decode cX4_riskOf 133 = .ok (.iload 4, 2) := dk_21 4 (dk_at dksX4_riskOf_5 15 rfl rfl)
theorem dX4_riskOf_135 : decode cX4_riskOf 135 = .ok (.iload 5, 2) := dk_21 5 (dk_at dksX4_riskOf_5 17 rfl rfl)
theorem dX4_riskOf_137 : decode cX4_riskOf 137 = .ok (.iload_n 1, 1) := dk_27 (dk_at dksX4_riskOf_5 19 rfl rfl)
theorem dX4_riskOf_138 : decode cX4_riskOf 138 = .ok (.if_icmp .eq 34, 3) := dk_159 0 34 (dk_at dksX4_riskOf_5 20 rfl rfl)
theorem dX4_riskOf_141 : decode cX4_riskOf 141 = .ok (.aload_n 0, 1) := dk_42 (dk_at dksX4_riskOf_5 23 rfl rfl)
theorem dX4_riskOf_142 : decode cX4_riskOf 142 = .ok (.getfield 17, 3) := dk_180 0 17 (dk_at dksX4_riskOf_6 0 rfl rfl)
theorem dX4_riskOf_145 : decode cX4_riskOf 145 = .ok (.iload 5, 2) := dk_21 5 (dk_at dksX4_riskOf_6 3 rfl rfl)
theorem dX4_riskOf_147 : decode cX4_riskOf 147 = .ok (.iaload, 1) := dk_46 (dk_at dksX4_riskOf_6 5 rfl rfl)
theorem dX4_riskOf_148 : decode cX4_riskOf 148 = .ok (.aload_n 0, 1) := dk_42 (dk_at dksX4_riskOf_6 6 rfl rfl)
theorem dX4_riskOf_149 : decode cX4_riskOf 149 = .ok (.getfield 17, 3) := dk_180 0 17 (dk_at dksX4_riskOf_6 7 rfl rfl)
theorem dX4_riskOf_152 : decode cX4_riskOf 152 = .ok (.iload_n 1, 1) := dk_27 (dk_at dksX4_riskOf_6 10 rfl rfl)
theorem dX4_riskOf_153 : decode cX4_riskOf 153 = .ok (.iaload, 1) := dk_46 (dk_at dksX4_riskOf_6 11 rfl rfl)
theorem dX4_riskOf_154 : decode cX4_riskOf 154 = .ok (.if_icmp .ne 18, 3) := dk_160 0 18 (dk_at dksX4_riskOf_6 12 rfl rfl)
theorem dX4_riskOf_157 : decode cX4_riskOf 157 = .ok (.aload_n 0, 1) := dk_42 (dk_at dksX4_riskOf_6 15 rfl rfl)
theorem dX4_riskOf_158 : decode cX4_riskOf 158 = .ok (.iload 5, 2) := dk_21 5 (dk_at dksX4_riskOf_6 16 rfl rfl)
theorem dX4_riskOf_160 : decode cX4_riskOf 160 = .ok (.iload_n 2, 1) := dk_28 (dk_at dksX4_riskOf_6 18 rfl rfl)
theorem dX4_riskOf_161 : decode cX4_riskOf 161 = .ok (.invokevirtual 289, 3) := dk_182 1 33 (dk_at dksX4_riskOf_6 19 rfl rfl)
theorem dX4_riskOf_164 : decode cX4_riskOf 164 = .ok (.iconst 3, 1) := dk_6 (dk_at dksX4_riskOf_6 22 rfl rfl)
theorem dX4_riskOf_165 : decode cX4_riskOf 165 = .ok (.if_icmp .ne 7, 3) := dk_160 0 7 (dk_at dksX4_riskOf_7 0 rfl rfl)
theorem dX4_riskOf_168 : decode cX4_riskOf 168 = .ok (.iconst 1, 1) := dk_4 (dk_at dksX4_riskOf_7 3 rfl rfl)
theorem dX4_riskOf_169 : decode cX4_riskOf 169 = .ok (.goto 4, 3) := dk_167 0 4 (dk_at dksX4_riskOf_7 4 rfl rfl)
theorem dX4_riskOf_172 : decode cX4_riskOf 172 = .ok (.iconst 0, 1) := dk_3 (dk_at dksX4_riskOf_7 7 rfl rfl)
theorem dX4_riskOf_173 : decode cX4_riskOf 173 = .ok (.iadd, 1) := dk_96 (dk_at dksX4_riskOf_7 8 rfl rfl)
theorem dX4_riskOf_174 : decode cX4_riskOf 174 = .ok (.istore 4, 2) := dk_54 4 (dk_at dksX4_riskOf_7 9 rfl rfl)
theorem dX4_riskOf_176 : decode cX4_riskOf 176 = .ok (.iinc 5 1, 3) := dk_132 5 1 (dk_at dksX4_riskOf_7 11 rfl rfl)
theorem dX4_riskOf_179 : decode cX4_riskOf 179 = .ok (.goto (-55), 3) := dk_167 255 201 (dk_at dksX4_riskOf_7 14 rfl rfl)
theorem dX4_riskOf_182 : decode cX4_riskOf 182 = .ok (.iload 4, 2) := dk_21 4 (dk_at dksX4_riskOf_7 17 rfl rfl)
theorem dX4_riskOf_184 : decode cX4_riskOf 184 = .ok (.ireturn, 1) := dk_172 (dk_at dksX4_riskOf_7 19 rfl rfl)
abbrev cX4_riskiestTrader : ByteArray := prog_21_method_68_code
def yX4_riskiestTrader : MethodName := ⟨RX4, "riskiestTrader", "(I)I"⟩
def dkwX4_riskiestTrader_4 : List UInt8 := [167, 255, 183, 28, 172]
abbrev dktX4_riskiestTrader_4 : List UInt8 := dkwX4_riskiestTrader_4 ++ []
def dkwX4_riskiestTrader_3 : List UInt8 := [54, 5, 132, 6, 1, 167, 255, 216, 21, 5, 29, 164, 0, 9, 21, 4, 61, 21, 5, 62, 132, 4, 1]
abbrev dktX4_riskiestTrader_3 : List UInt8 := dkwX4_riskiestTrader_3 ++ dktX4_riskiestTrader_4
def dkwX4_riskiestTrader_2 : List UInt8 := [42, 180, 0, 17, 21, 6, 46, 21, 4, 160, 0, 13, 42, 21, 6, 27, 182, 1, 38, 167, 0, 4, 3, 96]
abbrev dktX4_riskiestTrader_2 : List UInt8 := dkwX4_riskiestTrader_2 ++ dktX4_riskiestTrader_3
def dkwX4_riskiestTrader_1 : List UInt8 := [42, 180, 0, 215, 162, 0, 70, 3, 54, 5, 3, 54, 6, 21, 6, 42, 180, 0, 218, 162, 0, 37, 21, 5]
abbrev dktX4_riskiestTrader_1 : List UInt8 := dkwX4_riskiestTrader_1 ++ dktX4_riskiestTrader_2
def dkwX4_riskiestTrader_0 : List UInt8 := [42, 3, 181, 0, 1, 27, 184, 1, 30, 154, 0, 5, 2, 172, 16, 254, 61, 2, 62, 3, 54, 4, 21, 4]
abbrev dktX4_riskiestTrader_0 : List UInt8 := dkwX4_riskiestTrader_0 ++ dktX4_riskiestTrader_1
theorem dksX4_riskiestTrader_0 : cX4_riskiestTrader.data.toList.drop 0 = dktX4_riskiestTrader_0 := by decide +kernel
theorem dksX4_riskiestTrader_1 : cX4_riskiestTrader.data.toList.drop 24 = dktX4_riskiestTrader_1 := dk_seg dksX4_riskiestTrader_0 24 rfl rfl
theorem dksX4_riskiestTrader_2 : cX4_riskiestTrader.data.toList.drop 48 = dktX4_riskiestTrader_2 := dk_seg dksX4_riskiestTrader_1 24 rfl rfl
theorem dksX4_riskiestTrader_3 : cX4_riskiestTrader.data.toList.drop 72 = dktX4_riskiestTrader_3 := dk_seg dksX4_riskiestTrader_2 24 rfl rfl
theorem dksX4_riskiestTrader_4 : cX4_riskiestTrader.data.toList.drop 95 = dktX4_riskiestTrader_4 := dk_seg dksX4_riskiestTrader_3 23 rfl rfl
theorem dX4_riskiestTrader_0 : decode cX4_riskiestTrader 0 = .ok (.aload_n 0, 1) := dk_42 (dk_at dksX4_riskiestTrader_0 0 rfl rfl)
theorem dX4_riskiestTrader_1 : decode cX4_riskiestTrader 1 = .ok (.iconst 0, 1) := dk_3 (dk_at dksX4_riskiestTrader_0 1 rfl rfl)
theorem dX4_riskiestTrader_2 : decode cX4_riskiestTrader 2 = .ok (.putfield 1, 3) := dk_181 0 1 (dk_at dksX4_riskiestTrader_0 2 rfl rfl)
theorem dX4_riskiestTrader_5 : decode cX4_riskiestTrader 5 = .ok (.iload_n 1, 1) := dk_27 (dk_at dksX4_riskiestTrader_0 5 rfl rfl)
theorem dX4_riskiestTrader_6 : decode cX4_riskiestTrader 6 = .ok (.invokestatic 286, 3) := dk_184 1 30 (dk_at dksX4_riskiestTrader_0 6 rfl rfl)
theorem dX4_riskiestTrader_9 : decode cX4_riskiestTrader 9 = .ok (.ifCond .ne 5, 3) := dk_154 0 5 (dk_at dksX4_riskiestTrader_0 9 rfl rfl)
theorem dX4_riskiestTrader_12 : decode cX4_riskiestTrader 12 = .ok (.iconst (-1), 1) := dk_2 (dk_at dksX4_riskiestTrader_0 12 rfl rfl)
theorem dX4_riskiestTrader_13 : decode cX4_riskiestTrader 13 = .ok (.ireturn, 1) := dk_172 (dk_at dksX4_riskiestTrader_0 13 rfl rfl)
theorem dX4_riskiestTrader_14 : decode cX4_riskiestTrader 14 = .ok (.bipush (-2), 2) := dk_16 254 (dk_at dksX4_riskiestTrader_0 14 rfl rfl)
theorem dX4_riskiestTrader_16 : decode cX4_riskiestTrader 16 = .ok (.istore_n 2, 1) := dk_61 (dk_at dksX4_riskiestTrader_0 16 rfl rfl)
theorem dX4_riskiestTrader_17 : decode cX4_riskiestTrader 17 = .ok (.iconst (-1), 1) := dk_2 (dk_at dksX4_riskiestTrader_0 17 rfl rfl)
theorem dX4_riskiestTrader_18 : decode cX4_riskiestTrader 18 = .ok (.istore_n 3, 1) := dk_62 (dk_at dksX4_riskiestTrader_0 18 rfl rfl)
theorem dX4_riskiestTrader_19 : decode cX4_riskiestTrader 19 = .ok (.iconst 0, 1) := dk_3 (dk_at dksX4_riskiestTrader_0 19 rfl rfl)
theorem dX4_riskiestTrader_20 : decode cX4_riskiestTrader 20 = .ok (.istore 4, 2) := dk_54 4 (dk_at dksX4_riskiestTrader_0 20 rfl rfl)
theorem dX4_riskiestTrader_22 : decode cX4_riskiestTrader 22 = .ok (.iload 4, 2) := dk_21 4 (dk_at dksX4_riskiestTrader_0 22 rfl rfl)
theorem dX4_riskiestTrader_24 : decode cX4_riskiestTrader 24 = .ok (.aload_n 0, 1) := dk_42 (dk_at dksX4_riskiestTrader_1 0 rfl rfl)
theorem dX4_riskiestTrader_25 : decode cX4_riskiestTrader 25 = .ok (.getfield 215, 3) := dk_180 0 215 (dk_at dksX4_riskiestTrader_1 1 rfl rfl)
theorem dX4_riskiestTrader_28 : decode cX4_riskiestTrader 28 = .ok (.if_icmp .ge 70, 3) := dk_162 0 70 (dk_at dksX4_riskiestTrader_1 4 rfl rfl)
theorem dX4_riskiestTrader_31 : decode cX4_riskiestTrader 31 = .ok (.iconst 0, 1) := dk_3 (dk_at dksX4_riskiestTrader_1 7 rfl rfl)
theorem dX4_riskiestTrader_32 : decode cX4_riskiestTrader 32 = .ok (.istore 5, 2) := dk_54 5 (dk_at dksX4_riskiestTrader_1 8 rfl rfl)
theorem dX4_riskiestTrader_34 : decode cX4_riskiestTrader 34 = .ok (.iconst 0, 1) := dk_3 (dk_at dksX4_riskiestTrader_1 10 rfl rfl)
theorem dX4_riskiestTrader_35 : decode cX4_riskiestTrader 35 = .ok (.istore 6, 2) := dk_54 6 (dk_at dksX4_riskiestTrader_1 11 rfl rfl)
theorem dX4_riskiestTrader_37 : decode cX4_riskiestTrader 37 = .ok (.iload 6, 2) := dk_21 6 (dk_at dksX4_riskiestTrader_1 13 rfl rfl)
theorem dX4_riskiestTrader_39 : decode cX4_riskiestTrader 39 = .ok (.aload_n 0, 1) := dk_42 (dk_at dksX4_riskiestTrader_1 15 rfl rfl)
theorem dX4_riskiestTrader_40 : decode cX4_riskiestTrader 40 = .ok (.getfield 218, 3) := dk_180 0 218 (dk_at dksX4_riskiestTrader_1 16 rfl rfl)
theorem dX4_riskiestTrader_43 : decode cX4_riskiestTrader 43 = .ok (.if_icmp .ge 37, 3) := dk_162 0 37 (dk_at dksX4_riskiestTrader_1 19 rfl rfl)
theorem dX4_riskiestTrader_46 : decode cX4_riskiestTrader 46 = .ok (.iload 5, 2) := dk_21 5 (dk_at dksX4_riskiestTrader_1 22 rfl rfl)
theorem dX4_riskiestTrader_48 : decode cX4_riskiestTrader 48 = .ok (.aload_n 0, 1) := dk_42 (dk_at dksX4_riskiestTrader_2 0 rfl rfl)
theorem dX4_riskiestTrader_49 : decode cX4_riskiestTrader 49 = .ok (.getfield 17, 3) := dk_180 0 17 (dk_at dksX4_riskiestTrader_2 1 rfl rfl)
theorem dX4_riskiestTrader_52 : decode cX4_riskiestTrader 52 = .ok (.iload 6, 2) := dk_21 6 (dk_at dksX4_riskiestTrader_2 4 rfl rfl)
theorem dX4_riskiestTrader_54 : decode cX4_riskiestTrader 54 = .ok (.iaload, 1) := dk_46 (dk_at dksX4_riskiestTrader_2 6 rfl rfl)
theorem dX4_riskiestTrader_55 : decode cX4_riskiestTrader 55 = .ok (.iload 4, 2) := dk_21 4 (dk_at dksX4_riskiestTrader_2 7 rfl rfl)
theorem dX4_riskiestTrader_57 : decode cX4_riskiestTrader 57 = .ok (.if_icmp .ne 13, 3) := dk_160 0 13 (dk_at dksX4_riskiestTrader_2 9 rfl rfl)
theorem dX4_riskiestTrader_60 : decode cX4_riskiestTrader 60 = .ok (.aload_n 0, 1) := dk_42 (dk_at dksX4_riskiestTrader_2 12 rfl rfl)
theorem dX4_riskiestTrader_61 : decode cX4_riskiestTrader 61 = .ok (.iload 6, 2) := dk_21 6 (dk_at dksX4_riskiestTrader_2 13 rfl rfl)
theorem dX4_riskiestTrader_63 : decode cX4_riskiestTrader 63 = .ok (.iload_n 1, 1) := dk_27 (dk_at dksX4_riskiestTrader_2 15 rfl rfl)
theorem dX4_riskiestTrader_64 : decode cX4_riskiestTrader 64 = .ok (.invokevirtual 294, 3) := dk_182 1 38 (dk_at dksX4_riskiestTrader_2 16 rfl rfl)
theorem dX4_riskiestTrader_67 : decode cX4_riskiestTrader 67 = .ok (.goto 4, 3) := dk_167 0 4 (dk_at dksX4_riskiestTrader_2 19 rfl rfl)
theorem dX4_riskiestTrader_70 : decode cX4_riskiestTrader 70 = .ok (.iconst 0, 1) := dk_3 (dk_at dksX4_riskiestTrader_2 22 rfl rfl)
theorem dX4_riskiestTrader_71 : decode cX4_riskiestTrader 71 = .ok (.iadd, 1) := dk_96 (dk_at dksX4_riskiestTrader_2 23 rfl rfl)
theorem dX4_riskiestTrader_72 : decode cX4_riskiestTrader 72 = .ok (.istore 5, 2) := dk_54 5 (dk_at dksX4_riskiestTrader_3 0 rfl rfl)
theorem dX4_riskiestTrader_74 : decode cX4_riskiestTrader 74 = .ok (.iinc 6 1, 3) := dk_132 6 1 (dk_at dksX4_riskiestTrader_3 2 rfl rfl)
theorem dX4_riskiestTrader_77 : decode cX4_riskiestTrader 77 = .ok (.goto (-40), 3) := dk_167 255 216 (dk_at dksX4_riskiestTrader_3 5 rfl rfl)
theorem dX4_riskiestTrader_80 : decode cX4_riskiestTrader 80 = .ok (.iload 5, 2) := dk_21 5 (dk_at dksX4_riskiestTrader_3 8 rfl rfl)
theorem dX4_riskiestTrader_82 : decode cX4_riskiestTrader 82 = .ok (.iload_n 3, 1) := dk_29 (dk_at dksX4_riskiestTrader_3 10 rfl rfl)
theorem dX4_riskiestTrader_83 : decode cX4_riskiestTrader 83 = .ok (.if_icmp .le 9, 3) := dk_164 0 9 (dk_at dksX4_riskiestTrader_3 11 rfl rfl)
theorem dX4_riskiestTrader_86 : decode cX4_riskiestTrader 86 = .ok (.iload 4, 2) := dk_21 4 (dk_at dksX4_riskiestTrader_3 14 rfl rfl)
theorem dX4_riskiestTrader_88 : decode cX4_riskiestTrader 88 = .ok (.istore_n 2, 1) := dk_61 (dk_at dksX4_riskiestTrader_3 16 rfl rfl)
theorem dX4_riskiestTrader_89 : decode cX4_riskiestTrader 89 = .ok (.iload 5, 2) := dk_21 5 (dk_at dksX4_riskiestTrader_3 17 rfl rfl)
theorem dX4_riskiestTrader_91 : decode cX4_riskiestTrader 91 = .ok (.istore_n 3, 1) := dk_62 (dk_at dksX4_riskiestTrader_3 19 rfl rfl)
theorem dX4_riskiestTrader_92 : decode cX4_riskiestTrader 92 = .ok (.iinc 4 1, 3) := dk_132 4 1 (dk_at dksX4_riskiestTrader_3 20 rfl rfl)
theorem dX4_riskiestTrader_95 : decode cX4_riskiestTrader 95 = .ok (.goto (-73), 3) := dk_167 255 183 (dk_at dksX4_riskiestTrader_4 0 rfl rfl)
theorem dX4_riskiestTrader_98 : decode cX4_riskiestTrader 98 = .ok (.iload_n 2, 1) := dk_28 (dk_at dksX4_riskiestTrader_4 3 rfl rfl)
theorem dX4_riskiestTrader_99 : decode cX4_riskiestTrader 99 = .ok (.ireturn, 1) := dk_172 (dk_at dksX4_riskiestTrader_4 4 rfl rfl)
abbrev cX4_lot : ByteArray := prog_21_method_69_code
def yX4_lot : MethodName := ⟨RX4, "lot", "(III)I"⟩
def dkwX4_lot_8 : List UInt8 := [3, 79, 132, 8, 1, 167, 255, 165, 21, 7, 172]
abbrev dktX4_lot_8 : List UInt8 := dkwX4_lot_8 ++ []
def dkwX4_lot_7 : List UInt8 := [132, 7, 1, 167, 255, 229, 21, 4, 42, 180, 0, 76, 21, 7, 46, 100, 54, 4, 42, 180, 0, 76, 21, 7]
abbrev dktX4_lot_7 : List UInt8 := dkwX4_lot_7 ++ dktX4_lot_8
def dkwX4_lot_6 : List UInt8 := [42, 180, 0, 76, 21, 7, 46, 161, 0, 21, 21, 9, 42, 180, 0, 76, 21, 7, 46, 100, 54, 9]
abbrev dktX4_lot_6 : List UInt8 := dkwX4_lot_6 ++ dktX4_lot_7
def dkwX4_lot_5 : List UInt8 := [20, 1, 47, 113, 55, 5, 22, 5, 20, 1, 49, 109, 21, 4, 133, 113, 136, 54, 9, 3, 54, 7, 21, 9]
abbrev dktX4_lot_5 : List UInt8 := dkwX4_lot_5 ++ dktX4_lot_6
def dkwX4_lot_4 : List UInt8 := [16, 254, 54, 7, 3, 54, 8, 21, 8, 28, 163, 0, 91, 22, 5, 20, 1, 43, 105, 20, 1, 45, 97]
abbrev dktX4_lot_4 : List UInt8 := dkwX4_lot_4 ++ dktX4_lot_5
def dkwX4_lot_3 : List UInt8 := [79, 21, 4, 42, 180, 0, 76, 21, 5, 46, 96, 54, 4, 132, 5, 1, 167, 255, 218, 27, 133, 55, 5]
abbrev dktX4_lot_3 : List UInt8 := dkwX4_lot_3 ++ dktX4_lot_4
def dkwX4_lot_2 : List UInt8 := [54, 5, 21, 5, 42, 180, 0, 218, 162, 0, 35, 42, 180, 0, 76, 21, 5, 42, 21, 5, 29, 182, 1, 38]
abbrev dktX4_lot_2 : List UInt8 := dkwX4_lot_2 ++ dktX4_lot_3
def dkwX4_lot_1 : List UInt8 := [184, 1, 30, 154, 0, 5, 2, 172, 28, 42, 180, 0, 218, 161, 0, 6, 16, 254, 172, 3, 54, 4, 3]
abbrev dktX4_lot_1 : List UInt8 := dkwX4_lot_1 ++ dktX4_lot_2
def dkwX4_lot_0 : List UInt8 := [42, 3, 181, 0, 1, 27, 133, 9, 20, 1, 41, 184, 0, 124, 153, 0, 14, 28, 155, 0, 10, 29]
abbrev dktX4_lot_0 : List UInt8 := dkwX4_lot_0 ++ dktX4_lot_1
theorem dksX4_lot_0 : cX4_lot.data.toList.drop 0 = dktX4_lot_0 := by decide +kernel
theorem dksX4_lot_1 : cX4_lot.data.toList.drop 22 = dktX4_lot_1 := dk_seg dksX4_lot_0 22 rfl rfl
theorem dksX4_lot_2 : cX4_lot.data.toList.drop 45 = dktX4_lot_2 := dk_seg dksX4_lot_1 23 rfl rfl
theorem dksX4_lot_3 : cX4_lot.data.toList.drop 69 = dktX4_lot_3 := dk_seg dksX4_lot_2 24 rfl rfl
theorem dksX4_lot_4 : cX4_lot.data.toList.drop 92 = dktX4_lot_4 := dk_seg dksX4_lot_3 23 rfl rfl
theorem dksX4_lot_5 : cX4_lot.data.toList.drop 115 = dktX4_lot_5 := dk_seg dksX4_lot_4 23 rfl rfl
theorem dksX4_lot_6 : cX4_lot.data.toList.drop 139 = dktX4_lot_6 := dk_seg dksX4_lot_5 24 rfl rfl
theorem dksX4_lot_7 : cX4_lot.data.toList.drop 161 = dktX4_lot_7 := dk_seg dksX4_lot_6 22 rfl rfl
theorem dksX4_lot_8 : cX4_lot.data.toList.drop 185 = dktX4_lot_8 := dk_seg dksX4_lot_7 24 rfl rfl
theorem dX4_lot_0 : decode cX4_lot 0 = .ok (.aload_n 0, 1) := dk_42 (dk_at dksX4_lot_0 0 rfl rfl)
theorem dX4_lot_1 : decode cX4_lot 1 = .ok (.iconst 0, 1) := dk_3 (dk_at dksX4_lot_0 1 rfl rfl)
theorem dX4_lot_2 : decode cX4_lot 2 = .ok (.putfield 1, 3) := dk_181 0 1 (dk_at dksX4_lot_0 2 rfl rfl)
theorem dX4_lot_5 : decode cX4_lot 5 = .ok (.iload_n 1, 1) := dk_27 (dk_at dksX4_lot_0 5 rfl rfl)
theorem dX4_lot_6 : decode cX4_lot 6 = .ok (.i2l, 1) := dk_133 (dk_at dksX4_lot_0 6 rfl rfl)
theorem dX4_lot_7 : decode cX4_lot 7 = .ok (.lconst 0, 1) := dk_9 (dk_at dksX4_lot_0 7 rfl rfl)
theorem dX4_lot_8 : decode cX4_lot 8 = .ok (.ldc2_w 297, 3) := dk_20 1 41 (dk_at dksX4_lot_0 8 rfl rfl)
theorem dX4_lot_11 : decode cX4_lot 11 = .ok (.invokestatic 124, 3) := dk_184 0 124 (dk_at dksX4_lot_0 11 rfl rfl)
theorem dX4_lot_14 : decode cX4_lot 14 = .ok (.ifCond .eq 14, 3) := dk_153 0 14 (dk_at dksX4_lot_0 14 rfl rfl)
theorem dX4_lot_17 : decode cX4_lot 17 = .ok (.iload_n 2, 1) := dk_28 (dk_at dksX4_lot_0 17 rfl rfl)
theorem dX4_lot_18 : decode cX4_lot 18 = .ok (.ifCond .lt 10, 3) := dk_155 0 10 (dk_at dksX4_lot_0 18 rfl rfl)
theorem dX4_lot_21 : decode cX4_lot 21 = .ok (.iload_n 3, 1) := dk_29 (dk_at dksX4_lot_0 21 rfl rfl)
theorem dX4_lot_22 : decode cX4_lot 22 = .ok (.invokestatic 286, 3) := dk_184 1 30 (dk_at dksX4_lot_1 0 rfl rfl)
theorem dX4_lot_25 : decode cX4_lot 25 = .ok (.ifCond .ne 5, 3) := dk_154 0 5 (dk_at dksX4_lot_1 3 rfl rfl)
theorem dX4_lot_28 : decode cX4_lot 28 = .ok (.iconst (-1), 1) := dk_2 (dk_at dksX4_lot_1 6 rfl rfl)
theorem dX4_lot_29 : decode cX4_lot 29 = .ok (.ireturn, 1) := dk_172 (dk_at dksX4_lot_1 7 rfl rfl)
theorem dX4_lot_30 : decode cX4_lot 30 = .ok (.iload_n 2, 1) := dk_28 (dk_at dksX4_lot_1 8 rfl rfl)
theorem dX4_lot_31 : decode cX4_lot 31 = .ok (.aload_n 0, 1) := dk_42 (dk_at dksX4_lot_1 9 rfl rfl)
theorem dX4_lot_32 : decode cX4_lot 32 = .ok (.getfield 218, 3) := dk_180 0 218 (dk_at dksX4_lot_1 10 rfl rfl)
theorem dX4_lot_35 : decode cX4_lot 35 = .ok (.if_icmp .lt 6, 3) := dk_161 0 6 (dk_at dksX4_lot_1 13 rfl rfl)
theorem dX4_lot_38 : decode cX4_lot 38 = .ok (.bipush (-2), 2) := dk_16 254 (dk_at dksX4_lot_1 16 rfl rfl)
theorem dX4_lot_40 : decode cX4_lot 40 = .ok (.ireturn, 1) := dk_172 (dk_at dksX4_lot_1 18 rfl rfl)
theorem dX4_lot_41 : decode cX4_lot 41 = .ok (.iconst 0, 1) := dk_3 (dk_at dksX4_lot_1 19 rfl rfl)
theorem dX4_lot_42 : decode cX4_lot 42 = .ok (.istore 4, 2) := dk_54 4 (dk_at dksX4_lot_1 20 rfl rfl)
theorem dX4_lot_44 : decode cX4_lot 44 = .ok (.iconst 0, 1) := dk_3 (dk_at dksX4_lot_1 22 rfl rfl)
theorem dX4_lot_45 : decode cX4_lot 45 = .ok (.istore 5, 2) := dk_54 5 (dk_at dksX4_lot_2 0 rfl rfl)
theorem dX4_lot_47 : decode cX4_lot 47 = .ok (.iload 5, 2) := dk_21 5 (dk_at dksX4_lot_2 2 rfl rfl)
theorem dX4_lot_49 : decode cX4_lot 49 = .ok (.aload_n 0, 1) := dk_42 (dk_at dksX4_lot_2 4 rfl rfl)
theorem dX4_lot_50 : decode cX4_lot 50 = .ok (.getfield 218, 3) := dk_180 0 218 (dk_at dksX4_lot_2 5 rfl rfl)
theorem dX4_lot_53 : decode cX4_lot 53 = .ok (.if_icmp .ge 35, 3) := dk_162 0 35 (dk_at dksX4_lot_2 8 rfl rfl)
theorem dX4_lot_56 : decode cX4_lot 56 = .ok (.aload_n 0, 1) := dk_42 (dk_at dksX4_lot_2 11 rfl rfl)
theorem dX4_lot_57 : decode cX4_lot 57 = .ok (.getfield 76, 3) := dk_180 0 76 (dk_at dksX4_lot_2 12 rfl rfl)
theorem dX4_lot_60 : decode cX4_lot 60 = .ok (.iload 5, 2) := dk_21 5 (dk_at dksX4_lot_2 15 rfl rfl)
theorem dX4_lot_62 : decode cX4_lot 62 = .ok (.aload_n 0, 1) := dk_42 (dk_at dksX4_lot_2 17 rfl rfl)
theorem dX4_lot_63 : decode cX4_lot 63 = .ok (.iload 5, 2) := dk_21 5 (dk_at dksX4_lot_2 18 rfl rfl)
theorem dX4_lot_65 : decode cX4_lot 65 = .ok (.iload_n 3, 1) := dk_29 (dk_at dksX4_lot_2 20 rfl rfl)
theorem dX4_lot_66 : decode cX4_lot 66 = .ok (.invokevirtual 294, 3) := dk_182 1 38 (dk_at dksX4_lot_2 21 rfl rfl)
theorem dX4_lot_69 : decode cX4_lot 69 = .ok (.iastore, 1) := dk_79 (dk_at dksX4_lot_3 0 rfl rfl)
theorem dX4_lot_70 : decode cX4_lot 70 = .ok (.iload 4, 2) := dk_21 4 (dk_at dksX4_lot_3 1 rfl rfl)
theorem dX4_lot_72 : decode cX4_lot 72 = .ok (.aload_n 0, 1) := dk_42 (dk_at dksX4_lot_3 3 rfl rfl)
theorem dX4_lot_73 : decode cX4_lot 73 = .ok (.getfield 76, 3) := dk_180 0 76 (dk_at dksX4_lot_3 4 rfl rfl)
theorem dX4_lot_76 : decode cX4_lot 76 = .ok (.iload 5, 2) := dk_21 5 (dk_at dksX4_lot_3 7 rfl rfl)
theorem dX4_lot_78 : decode cX4_lot 78 = .ok (.iaload, 1) := dk_46 (dk_at dksX4_lot_3 9 rfl rfl)
theorem dX4_lot_79 : decode cX4_lot 79 = .ok (.iadd, 1) := dk_96 (dk_at dksX4_lot_3 10 rfl rfl)
theorem dX4_lot_80 : decode cX4_lot 80 = .ok (.istore 4, 2) := dk_54 4 (dk_at dksX4_lot_3 11 rfl rfl)
theorem dX4_lot_82 : decode cX4_lot 82 = .ok (.iinc 5 1, 3) := dk_132 5 1 (dk_at dksX4_lot_3 13 rfl rfl)
theorem dX4_lot_85 : decode cX4_lot 85 = .ok (.goto (-38), 3) := dk_167 255 218 (dk_at dksX4_lot_3 16 rfl rfl)
theorem dX4_lot_88 : decode cX4_lot 88 = .ok (.iload_n 1, 1) := dk_27 (dk_at dksX4_lot_3 19 rfl rfl)
theorem dX4_lot_89 : decode cX4_lot 89 = .ok (.i2l, 1) := dk_133 (dk_at dksX4_lot_3 20 rfl rfl)
theorem dX4_lot_90 : decode cX4_lot 90 = .ok (.lstore 5, 2) := dk_55 5 (dk_at dksX4_lot_3 21 rfl rfl)
theorem dX4_lot_92 : decode cX4_lot 92 = .ok (.bipush (-2), 2) := dk_16 254 (dk_at dksX4_lot_4 0 rfl rfl)
theorem dX4_lot_94 : decode cX4_lot 94 = .ok (.istore 7, 2) := dk_54 7 (dk_at dksX4_lot_4 2 rfl rfl)
theorem dX4_lot_96 : decode cX4_lot 96 = .ok (.iconst 0, 1) := dk_3 (dk_at dksX4_lot_4 4 rfl rfl)
theorem dX4_lot_97 : decode cX4_lot 97 = .ok (.istore 8, 2) := dk_54 8 (dk_at dksX4_lot_4 5 rfl rfl)
theorem dX4_lot_99 : decode cX4_lot 99 = .ok (.iload 8, 2) := dk_21 8 (dk_at dksX4_lot_4 7 rfl rfl)
theorem dX4_lot_101 : decode cX4_lot 101 = .ok (.iload_n 2, 1) := dk_28 (dk_at dksX4_lot_4 9 rfl rfl)
theorem dX4_lot_102 : decode cX4_lot 102 = .ok (.if_icmp .gt 91, 3) := dk_163 0 91 (dk_at dksX4_lot_4 10 rfl rfl)
theorem dX4_lot_105 : decode cX4_lot 105 = .ok (.lload 5, 2) := dk_22 5 (dk_at dksX4_lot_4 13 rfl rfl)
theorem dX4_lot_107 : decode cX4_lot 107 = .ok (.ldc2_w 299, 3) := dk_20 1 43 (dk_at dksX4_lot_4 15 rfl rfl)
theorem dX4_lot_110 : decode cX4_lot 110 = .ok (.lmul, 1) := dk_105 (dk_at dksX4_lot_4 18 rfl rfl)
theorem dX4_lot_111 : decode cX4_lot 111 = .ok (.ldc2_w 301, 3) := dk_20 1 45 (dk_at dksX4_lot_4 19 rfl rfl)
theorem dX4_lot_114 : decode cX4_lot 114 = .ok (.ladd, 1) := dk_97 (dk_at dksX4_lot_4 22 rfl rfl)
theorem dX4_lot_115 : decode cX4_lot 115 = .ok (.ldc2_w 303, 3) := dk_20 1 47 (dk_at dksX4_lot_5 0 rfl rfl)
theorem dX4_lot_118 : decode cX4_lot 118 = .ok (.lrem, 1) := dk_113 (dk_at dksX4_lot_5 3 rfl rfl)
theorem dX4_lot_119 : decode cX4_lot 119 = .ok (.lstore 5, 2) := dk_55 5 (dk_at dksX4_lot_5 4 rfl rfl)
theorem dX4_lot_121 : decode cX4_lot 121 = .ok (.lload 5, 2) := dk_22 5 (dk_at dksX4_lot_5 6 rfl rfl)
theorem dX4_lot_123 : decode cX4_lot 123 = .ok (.ldc2_w 305, 3) := dk_20 1 49 (dk_at dksX4_lot_5 8 rfl rfl)
theorem dX4_lot_126 : decode cX4_lot 126 = .ok (.ldiv, 1) := dk_109 (dk_at dksX4_lot_5 11 rfl rfl)
theorem dX4_lot_127 : decode cX4_lot 127 = .ok (.iload 4, 2) := dk_21 4 (dk_at dksX4_lot_5 12 rfl rfl)
theorem dX4_lot_129 : decode cX4_lot 129 = .ok (.i2l, 1) := dk_133 (dk_at dksX4_lot_5 14 rfl rfl)
theorem dX4_lot_130 : decode cX4_lot 130 = .ok (.lrem, 1) := dk_113 (dk_at dksX4_lot_5 15 rfl rfl)
theorem dX4_lot_131 : decode cX4_lot 131 = .ok (.l2i, 1) := dk_136 (dk_at dksX4_lot_5 16 rfl rfl)
theorem dX4_lot_132 : decode cX4_lot 132 = .ok (.istore 9, 2) := dk_54 9 (dk_at dksX4_lot_5 17 rfl rfl)
theorem dX4_lot_134 : decode cX4_lot 134 = .ok (.iconst 0, 1) := dk_3 (dk_at dksX4_lot_5 19 rfl rfl)
theorem dX4_lot_135 : decode cX4_lot 135 = .ok (.istore 7, 2) := dk_54 7 (dk_at dksX4_lot_5 20 rfl rfl)
theorem dX4_lot_137 : decode cX4_lot 137 = .ok (.iload 9, 2) := dk_21 9 (dk_at dksX4_lot_5 22 rfl rfl)
theorem dX4_lot_139 : decode cX4_lot 139 = .ok (.aload_n 0, 1) := dk_42 (dk_at dksX4_lot_6 0 rfl rfl)
theorem dX4_lot_140 : decode cX4_lot 140 = .ok (.getfield 76, 3) := dk_180 0 76 (dk_at dksX4_lot_6 1 rfl rfl)
theorem dX4_lot_143 : decode cX4_lot 143 = .ok (.iload 7, 2) := dk_21 7 (dk_at dksX4_lot_6 4 rfl rfl)
theorem dX4_lot_145 : decode cX4_lot 145 = .ok (.iaload, 1) := dk_46 (dk_at dksX4_lot_6 6 rfl rfl)
theorem dX4_lot_146 : decode cX4_lot 146 = .ok (.if_icmp .lt 21, 3) := dk_161 0 21 (dk_at dksX4_lot_6 7 rfl rfl)
theorem dX4_lot_149 : decode cX4_lot 149 = .ok (.iload 9, 2) := dk_21 9 (dk_at dksX4_lot_6 10 rfl rfl)
theorem dX4_lot_151 : decode cX4_lot 151 = .ok (.aload_n 0, 1) := dk_42 (dk_at dksX4_lot_6 12 rfl rfl)
theorem dX4_lot_152 : decode cX4_lot 152 = .ok (.getfield 76, 3) := dk_180 0 76 (dk_at dksX4_lot_6 13 rfl rfl)
theorem dX4_lot_155 : decode cX4_lot 155 = .ok (.iload 7, 2) := dk_21 7 (dk_at dksX4_lot_6 16 rfl rfl)
theorem dX4_lot_157 : decode cX4_lot 157 = .ok (.iaload, 1) := dk_46 (dk_at dksX4_lot_6 18 rfl rfl)
theorem dX4_lot_158 : decode cX4_lot 158 = .ok (.isub, 1) := dk_100 (dk_at dksX4_lot_6 19 rfl rfl)
theorem dX4_lot_159 : decode cX4_lot 159 = .ok (.istore 9, 2) := dk_54 9 (dk_at dksX4_lot_6 20 rfl rfl)
theorem dX4_lot_161 : decode cX4_lot 161 = .ok (.iinc 7 1, 3) := dk_132 7 1 (dk_at dksX4_lot_7 0 rfl rfl)
theorem dX4_lot_164 : decode cX4_lot 164 = .ok (.goto (-27), 3) := dk_167 255 229 (dk_at dksX4_lot_7 3 rfl rfl)
theorem dX4_lot_167 : decode cX4_lot 167 = .ok (.iload 4, 2) := dk_21 4 (dk_at dksX4_lot_7 6 rfl rfl)
theorem dX4_lot_169 : decode cX4_lot 169 = .ok (.aload_n 0, 1) := dk_42 (dk_at dksX4_lot_7 8 rfl rfl)
theorem dX4_lot_170 : decode cX4_lot 170 = .ok (.getfield 76, 3) := dk_180 0 76 (dk_at dksX4_lot_7 9 rfl rfl)
theorem dX4_lot_173 : decode cX4_lot 173 = .ok (.iload 7, 2) := dk_21 7 (dk_at dksX4_lot_7 12 rfl rfl)
theorem dX4_lot_175 : decode cX4_lot 175 = .ok (.iaload, 1) := dk_46 (dk_at dksX4_lot_7 14 rfl rfl)
theorem dX4_lot_176 : decode cX4_lot 176 = .ok (.isub, 1) := dk_100 (dk_at dksX4_lot_7 15 rfl rfl)
theorem dX4_lot_177 : decode cX4_lot 177 = .ok (.istore 4, 2) := dk_54 4 (dk_at dksX4_lot_7 16 rfl rfl)
theorem dX4_lot_179 : decode cX4_lot 179 = .ok (.aload_n 0, 1) := dk_42 (dk_at dksX4_lot_7 18 rfl rfl)
theorem dX4_lot_180 : decode cX4_lot 180 = .ok (.getfield 76, 3) := dk_180 0 76 (dk_at dksX4_lot_7 19 rfl rfl)
theorem dX4_lot_183 : decode cX4_lot 183 = .ok (.iload 7, 2) := dk_21 7 (dk_at dksX4_lot_7 22 rfl rfl)
theorem dX4_lot_185 : decode cX4_lot 185 = .ok (.iconst 0, 1) := dk_3 (dk_at dksX4_lot_8 0 rfl rfl)
theorem dX4_lot_186 : decode cX4_lot 186 = .ok (.iastore, 1) := dk_79 (dk_at dksX4_lot_8 1 rfl rfl)
theorem dX4_lot_187 : decode cX4_lot 187 = .ok (.iinc 8 1, 3) := dk_132 8 1 (dk_at dksX4_lot_8 2 rfl rfl)
theorem dX4_lot_190 : decode cX4_lot 190 = .ok (.goto (-91), 3) := dk_167 255 165 (dk_at dksX4_lot_8 5 rfl rfl)
theorem dX4_lot_193 : decode cX4_lot 193 = .ok (.iload 7, 2) := dk_21 7 (dk_at dksX4_lot_8 8 rfl rfl)
theorem dX4_lot_195 : decode cX4_lot 195 = .ok (.ireturn, 1) := dk_172 (dk_at dksX4_lot_8 10 rfl rfl)
abbrev cX4_weightCount : ByteArray := prog_21_method_79_code
def yX4_weightCount : MethodName := ⟨RX4, "weightCount", "(I)I"⟩
def dkwX4_weightCount_0 : List UInt8 := [42, 3, 181, 0, 1, 42, 27, 182, 1, 67, 153, 0, 12, 42, 180, 0, 32, 27, 46, 167, 0, 4, 2, 172]
abbrev dktX4_weightCount_0 : List UInt8 := dkwX4_weightCount_0 ++ []
theorem dksX4_weightCount_0 : cX4_weightCount.data.toList.drop 0 = dktX4_weightCount_0 := by decide +kernel
theorem dX4_weightCount_0 : decode cX4_weightCount 0 = .ok (.aload_n 0, 1) := dk_42 (dk_at dksX4_weightCount_0 0 rfl rfl)
theorem dX4_weightCount_1 : decode cX4_weightCount 1 = .ok (.iconst 0, 1) := dk_3 (dk_at dksX4_weightCount_0 1 rfl rfl)
theorem dX4_weightCount_2 : decode cX4_weightCount 2 = .ok (.putfield 1, 3) := dk_181 0 1 (dk_at dksX4_weightCount_0 2 rfl rfl)
theorem dX4_weightCount_5 : decode cX4_weightCount 5 = .ok (.aload_n 0, 1) := dk_42 (dk_at dksX4_weightCount_0 5 rfl rfl)
theorem dX4_weightCount_6 : decode cX4_weightCount 6 = .ok (.iload_n 1, 1) := dk_27 (dk_at dksX4_weightCount_0 6 rfl rfl)
theorem dX4_weightCount_7 : decode cX4_weightCount 7 = .ok (.invokevirtual 323, 3) := dk_182 1 67 (dk_at dksX4_weightCount_0 7 rfl rfl)
theorem dX4_weightCount_10 : decode cX4_weightCount 10 = .ok (.ifCond .eq 12, 3) := dk_153 0 12 (dk_at dksX4_weightCount_0 10 rfl rfl)
theorem dX4_weightCount_13 : decode cX4_weightCount 13 = .ok (.aload_n 0, 1) := dk_42 (dk_at dksX4_weightCount_0 13 rfl rfl)
theorem dX4_weightCount_14 : decode cX4_weightCount 14 = .ok (.getfield 32, 3) := dk_180 0 32 (dk_at dksX4_weightCount_0 14 rfl rfl)
theorem dX4_weightCount_17 : decode cX4_weightCount 17 = .ok (.iload_n 1, 1) := dk_27 (dk_at dksX4_weightCount_0 17 rfl rfl)
theorem dX4_weightCount_18 : decode cX4_weightCount 18 = .ok (.iaload, 1) := dk_46 (dk_at dksX4_weightCount_0 18 rfl rfl)
theorem dX4_weightCount_19 : decode cX4_weightCount 19 = .ok (.goto 4, 3) := dk_167 0 4 (dk_at dksX4_weightCount_0 19 rfl rfl)
theorem dX4_weightCount_22 : decode cX4_weightCount 22 = .ok (.iconst (-1), 1) := dk_2 (dk_at dksX4_weightCount_0 22 rfl rfl)
theorem dX4_weightCount_23 : decode cX4_weightCount 23 = .ok (.ireturn, 1) := dk_172 (dk_at dksX4_weightCount_0 23 rfl rfl)
abbrev cX4_isSet : ByteArray := prog_21_method_77_code
def yX4_isSet : MethodName := ⟨RX4, "isSet", "(I)Z"⟩
def dkwX4_isSet_0 : List UInt8 := [27, 133, 9, 42, 180, 0, 228, 4, 100, 133, 184, 0, 124, 172]
abbrev dktX4_isSet_0 : List UInt8 := dkwX4_isSet_0 ++ []
theorem dksX4_isSet_0 : cX4_isSet.data.toList.drop 0 = dktX4_isSet_0 := by decide +kernel
theorem dX4_isSet_0 : decode cX4_isSet 0 = .ok (.iload_n 1, 1) := dk_27 (dk_at dksX4_isSet_0 0 rfl rfl)
theorem dX4_isSet_1 : decode cX4_isSet 1 = .ok (.i2l, 1) := dk_133 (dk_at dksX4_isSet_0 1 rfl rfl)
theorem dX4_isSet_2 : decode cX4_isSet 2 = .ok (.lconst 0, 1) := dk_9 (dk_at dksX4_isSet_0 2 rfl rfl)
theorem dX4_isSet_3 : decode cX4_isSet 3 = .ok (.aload_n 0, 1) := dk_42 (dk_at dksX4_isSet_0 3 rfl rfl)
theorem dX4_isSet_4 : decode cX4_isSet 4 = .ok (.getfield 228, 3) := dk_180 0 228 (dk_at dksX4_isSet_0 4 rfl rfl)
theorem dX4_isSet_7 : decode cX4_isSet 7 = .ok (.iconst 1, 1) := dk_4 (dk_at dksX4_isSet_0 7 rfl rfl)
theorem dX4_isSet_8 : decode cX4_isSet 8 = .ok (.isub, 1) := dk_100 (dk_at dksX4_isSet_0 8 rfl rfl)
theorem dX4_isSet_9 : decode cX4_isSet 9 = .ok (.i2l, 1) := dk_133 (dk_at dksX4_isSet_0 9 rfl rfl)
theorem dX4_isSet_10 : decode cX4_isSet 10 = .ok (.invokestatic 124, 3) := dk_184 0 124 (dk_at dksX4_isSet_0 10 rfl rfl)
theorem dX4_isSet_13 : decode cX4_isSet 13 = .ok (.ireturn, 1) := dk_172 (dk_at dksX4_isSet_0 13 rfl rfl)
abbrev cX4_weigh : ByteArray := prog_21_method_80_code
def yX4_weigh : MethodName := ⟨RX4, "weigh", "(IIII)I"⟩
def dkwX4_weigh_12 : List UInt8 := [172]
abbrev dktX4_weigh_12 : List UInt8 := dkwX4_weigh_12 ++ []
def dkwX4_weigh_11 : List UInt8 := [17, 2, 157, 27, 96, 21, 8, 79, 42, 180, 0, 13, 17, 2, 161, 27, 96, 92, 46, 4, 96, 79, 21, 9]
abbrev dktX4_weigh_11 : List UInt8 := dkwX4_weigh_11 ++ dktX4_weigh_12
def dkwX4_weigh_10 : List UInt8 := [17, 2, 149, 27, 96, 21, 6, 79, 42, 180, 0, 13, 17, 2, 153, 27, 96, 21, 7, 79, 42, 180, 0, 13]
abbrev dktX4_weigh_10 : List UInt8 := dkwX4_weigh_10 ++ dktX4_weigh_11
def dkwX4_weigh_9 : List UInt8 := [17, 2, 161, 27, 96, 46, 16, 20, 160, 0, 6, 16, 253, 172, 42, 182, 0, 249, 42, 180, 0, 13]
abbrev dktX4_weigh_9 : List UInt8 := dkwX4_weigh_9 ++ dktX4_weigh_10
def dkwX4_weigh_8 : List UInt8 := [21, 7, 184, 0, 244, 96, 21, 8, 96, 54, 9, 21, 9, 154, 0, 6, 16, 254, 172, 42, 180, 0, 13]
abbrev dktX4_weigh_8 : List UInt8 := dkwX4_weigh_8 ++ dktX4_weigh_9
def dkwX4_weigh_7 : List UInt8 := [2, 130, 167, 0, 14, 21, 4, 4, 160, 0, 7, 29, 167, 0, 4, 28, 126, 54, 7, 21, 6, 184, 0, 244]
abbrev dktX4_weigh_7 : List UInt8 := dkwX4_weigh_7 ++ dktX4_weigh_8
def dkwX4_weigh_6 : List UInt8 := [21, 4, 4, 160, 0, 7, 28, 167, 0, 4, 29, 126, 54, 6, 21, 7, 21, 4, 154, 0, 11, 28, 29, 128]
abbrev dktX4_weigh_6 : List UInt8 := dkwX4_weigh_6 ++ dktX4_weigh_7
def dkwX4_weigh_5 : List UInt8 := [96, 46, 167, 0, 4, 3, 54, 8, 21, 6, 21, 4, 154, 0, 11, 28, 29, 128, 2, 130, 167, 0, 14]
abbrev dktX4_weigh_5 : List UInt8 := dkwX4_weigh_5 ++ dktX4_weigh_6
def dkwX4_weigh_4 : List UInt8 := [180, 0, 13, 17, 2, 153, 27, 96, 46, 54, 7, 21, 4, 154, 0, 16, 42, 180, 0, 13, 17, 2, 157, 27]
abbrev dktX4_weigh_4 : List UInt8 := dkwX4_weigh_4 ++ dktX4_weigh_5
def dkwX4_weigh_3 : List UInt8 := [20, 1, 70, 184, 0, 124, 154, 0, 5, 2, 172, 42, 180, 0, 13, 17, 2, 149, 27, 96, 46, 54, 6, 42]
abbrev dktX4_weigh_3 : List UInt8 := dkwX4_weigh_3 ++ dktX4_weigh_4
def dkwX4_weigh_2 : List UInt8 := [153, 0, 33, 28, 29, 126, 154, 0, 27, 28, 184, 0, 244, 29, 184, 0, 244, 160, 0, 16, 21, 4, 133, 9]
abbrev dktX4_weigh_2 : List UInt8 := dkwX4_weigh_2 ++ dktX4_weigh_3
def dkwX4_weigh_1 : List UInt8 := [100, 54, 5, 28, 133, 10, 21, 5, 133, 184, 0, 124, 153, 0, 45, 29, 133, 10, 21, 5, 133, 184, 0, 124]
abbrev dktX4_weigh_1 : List UInt8 := dkwX4_weigh_1 ++ dktX4_weigh_2
def dkwX4_weigh_0 : List UInt8 := [42, 3, 181, 0, 1, 42, 27, 182, 1, 67, 154, 0, 5, 2, 172, 4, 42, 180, 0, 32, 27, 46, 120, 4]
abbrev dktX4_weigh_0 : List UInt8 := dkwX4_weigh_0 ++ dktX4_weigh_1
theorem dksX4_weigh_0 : cX4_weigh.data.toList.drop 0 = dktX4_weigh_0 := by decide +kernel
theorem dksX4_weigh_1 : cX4_weigh.data.toList.drop 24 = dktX4_weigh_1 := dk_seg dksX4_weigh_0 24 rfl rfl
theorem dksX4_weigh_2 : cX4_weigh.data.toList.drop 48 = dktX4_weigh_2 := dk_seg dksX4_weigh_1 24 rfl rfl
theorem dksX4_weigh_3 : cX4_weigh.data.toList.drop 72 = dktX4_weigh_3 := dk_seg dksX4_weigh_2 24 rfl rfl
theorem dksX4_weigh_4 : cX4_weigh.data.toList.drop 96 = dktX4_weigh_4 := dk_seg dksX4_weigh_3 24 rfl rfl
theorem dksX4_weigh_5 : cX4_weigh.data.toList.drop 120 = dktX4_weigh_5 := dk_seg dksX4_weigh_4 24 rfl rfl
theorem dksX4_weigh_6 : cX4_weigh.data.toList.drop 143 = dktX4_weigh_6 := dk_seg dksX4_weigh_5 23 rfl rfl
theorem dksX4_weigh_7 : cX4_weigh.data.toList.drop 167 = dktX4_weigh_7 := dk_seg dksX4_weigh_6 24 rfl rfl
theorem dksX4_weigh_8 : cX4_weigh.data.toList.drop 191 = dktX4_weigh_8 := dk_seg dksX4_weigh_7 24 rfl rfl
theorem dksX4_weigh_9 : cX4_weigh.data.toList.drop 214 = dktX4_weigh_9 := dk_seg dksX4_weigh_8 23 rfl rfl
theorem dksX4_weigh_10 : cX4_weigh.data.toList.drop 236 = dktX4_weigh_10 := dk_seg dksX4_weigh_9 22 rfl rfl
theorem dksX4_weigh_11 : cX4_weigh.data.toList.drop 260 = dktX4_weigh_11 := dk_seg dksX4_weigh_10 24 rfl rfl
theorem dksX4_weigh_12 : cX4_weigh.data.toList.drop 284 = dktX4_weigh_12 := dk_seg dksX4_weigh_11 24 rfl rfl
theorem dX4_weigh_0 : decode cX4_weigh 0 = .ok (.aload_n 0, 1) := dk_42 (dk_at dksX4_weigh_0 0 rfl rfl)
theorem dX4_weigh_1 : decode cX4_weigh 1 = .ok (.iconst 0, 1) := dk_3 (dk_at dksX4_weigh_0 1 rfl rfl)
theorem dX4_weigh_2 : decode cX4_weigh 2 = .ok (.putfield 1, 3) := dk_181 0 1 (dk_at dksX4_weigh_0 2 rfl rfl)
theorem dX4_weigh_5 : decode cX4_weigh 5 = .ok (.aload_n 0, 1) := dk_42 (dk_at dksX4_weigh_0 5 rfl rfl)
theorem dX4_weigh_6 : decode cX4_weigh 6 = .ok (.iload_n 1, 1) := dk_27 (dk_at dksX4_weigh_0 6 rfl rfl)
theorem dX4_weigh_7 : decode cX4_weigh 7 = .ok (.invokevirtual 323, 3) := dk_182 1 67 (dk_at dksX4_weigh_0 7 rfl rfl)
theorem dX4_weigh_10 : decode cX4_weigh 10 = .ok (.ifCond .ne 5, 3) := dk_154 0 5 (dk_at dksX4_weigh_0 10 rfl rfl)
theorem dX4_weigh_13 : decode cX4_weigh 13 = .ok (.iconst (-1), 1) := dk_2 (dk_at dksX4_weigh_0 13 rfl rfl)
theorem dX4_weigh_14 : decode cX4_weigh 14 = .ok (.ireturn, 1) := dk_172 (dk_at dksX4_weigh_0 14 rfl rfl)
theorem dX4_weigh_15 : decode cX4_weigh 15 = .ok (.iconst 1, 1) := dk_4 (dk_at dksX4_weigh_0 15 rfl rfl)
theorem dX4_weigh_16 : decode cX4_weigh 16 = .ok (.aload_n 0, 1) := dk_42 (dk_at dksX4_weigh_0 16 rfl rfl)
theorem dX4_weigh_17 : decode cX4_weigh 17 = .ok (.getfield 32, 3) := dk_180 0 32 (dk_at dksX4_weigh_0 17 rfl rfl)
theorem dX4_weigh_20 : decode cX4_weigh 20 = .ok (.iload_n 1, 1) := dk_27 (dk_at dksX4_weigh_0 20 rfl rfl)
theorem dX4_weigh_21 : decode cX4_weigh 21 = .ok (.iaload, 1) := dk_46 (dk_at dksX4_weigh_0 21 rfl rfl)
theorem dX4_weigh_22 : decode cX4_weigh 22 = .ok (.ishl, 1) := dk_120 (dk_at dksX4_weigh_0 22 rfl rfl)
theorem dX4_weigh_23 : decode cX4_weigh 23 = .ok (.iconst 1, 1) := dk_4 (dk_at dksX4_weigh_0 23 rfl rfl)
theorem dX4_weigh_24 : decode cX4_weigh 24 = .ok (.isub, 1) := dk_100 (dk_at dksX4_weigh_1 0 rfl rfl)
theorem dX4_weigh_25 : decode cX4_weigh 25 = .ok (.istore 5, 2) := dk_54 5 (dk_at dksX4_weigh_1 1 rfl rfl)
theorem dX4_weigh_27 : decode cX4_weigh 27 = .ok (.iload_n 2, 1) := dk_28 (dk_at dksX4_weigh_1 3 rfl rfl)
theorem dX4_weigh_28 : decode cX4_weigh 28 = .ok (.i2l, 1) := dk_133 (dk_at dksX4_weigh_1 4 rfl rfl)
theorem dX4_weigh_29 : decode cX4_weigh 29 = .ok (.lconst 1, 1) := dk_10 (dk_at dksX4_weigh_1 5 rfl rfl)
theorem dX4_weigh_30 : decode cX4_weigh 30 = .ok (.iload 5, 2) := dk_21 5 (dk_at dksX4_weigh_1 6 rfl rfl)
theorem dX4_weigh_32 : decode cX4_weigh 32 = .ok (.i2l, 1) := dk_133 (dk_at dksX4_weigh_1 8 rfl rfl)
theorem dX4_weigh_33 : decode cX4_weigh 33 = .ok (.invokestatic 124, 3) := dk_184 0 124 (dk_at dksX4_weigh_1 9 rfl rfl)
theorem dX4_weigh_36 : decode cX4_weigh 36 = .ok (.ifCond .eq 45, 3) := dk_153 0 45 (dk_at dksX4_weigh_1 12 rfl rfl)
theorem dX4_weigh_39 : decode cX4_weigh 39 = .ok (.iload_n 3, 1) := dk_29 (dk_at dksX4_weigh_1 15 rfl rfl)
theorem dX4_weigh_40 : decode cX4_weigh 40 = .ok (.i2l, 1) := dk_133 (dk_at dksX4_weigh_1 16 rfl rfl)
theorem dX4_weigh_41 : decode cX4_weigh 41 = .ok (.lconst 1, 1) := dk_10 (dk_at dksX4_weigh_1 17 rfl rfl)
theorem dX4_weigh_42 : decode cX4_weigh 42 = .ok (.iload 5, 2) := dk_21 5 (dk_at dksX4_weigh_1 18 rfl rfl)
theorem dX4_weigh_44 : decode cX4_weigh 44 = .ok (.i2l, 1) := dk_133 (dk_at dksX4_weigh_1 20 rfl rfl)
theorem dX4_weigh_45 : decode cX4_weigh 45 = .ok (.invokestatic 124, 3) := dk_184 0 124 (dk_at dksX4_weigh_1 21 rfl rfl)
theorem dX4_weigh_48 : decode cX4_weigh 48 = .ok (.ifCond .eq 33, 3) := dk_153 0 33 (dk_at dksX4_weigh_2 0 rfl rfl)
theorem dX4_weigh_51 : decode cX4_weigh 51 = .ok (.iload_n 2, 1) := dk_28 (dk_at dksX4_weigh_2 3 rfl rfl)
theorem dX4_weigh_52 : decode cX4_weigh 52 = .ok (.iload_n 3, 1) := dk_29 (dk_at dksX4_weigh_2 4 rfl rfl)
theorem dX4_weigh_53 : decode cX4_weigh 53 = .ok (.iand, 1) := dk_126 (dk_at dksX4_weigh_2 5 rfl rfl)
theorem dX4_weigh_54 : decode cX4_weigh 54 = .ok (.ifCond .ne 27, 3) := dk_154 0 27 (dk_at dksX4_weigh_2 6 rfl rfl)
theorem dX4_weigh_57 : decode cX4_weigh 57 = .ok (.iload_n 2, 1) := dk_28 (dk_at dksX4_weigh_2 9 rfl rfl)
theorem dX4_weigh_58 : decode cX4_weigh 58 = .ok (.invokestatic 244, 3) := dk_184 0 244 (dk_at dksX4_weigh_2 10 rfl rfl)
theorem dX4_weigh_61 : decode cX4_weigh 61 = .ok (.iload_n 3, 1) := dk_29 (dk_at dksX4_weigh_2 13 rfl rfl)
theorem dX4_weigh_62 : decode cX4_weigh 62 = .ok (.invokestatic 244, 3) := dk_184 0 244 (dk_at dksX4_weigh_2 14 rfl rfl)
theorem dX4_weigh_65 : decode cX4_weigh 65 = .ok (.if_icmp .ne 16, 3) := dk_160 0 16 (dk_at dksX4_weigh_2 17 rfl rfl)
theorem dX4_weigh_68 : decode cX4_weigh 68 = .ok (.iload 4, 2) := dk_21 4 (dk_at dksX4_weigh_2 20 rfl rfl)
theorem dX4_weigh_70 : decode cX4_weigh 70 = .ok (.i2l, 1) := dk_133 (dk_at dksX4_weigh_2 22 rfl rfl)
theorem dX4_weigh_71 : decode cX4_weigh 71 = .ok (.lconst 0, 1) := dk_9 (dk_at dksX4_weigh_2 23 rfl rfl)
theorem dX4_weigh_72 : decode cX4_weigh 72 = .ok (.ldc2_w 326, 3) := dk_20 1 70 (dk_at dksX4_weigh_3 0 rfl rfl)
theorem dX4_weigh_75 : decode cX4_weigh 75 = .ok (.invokestatic 124, 3) := dk_184 0 124 (dk_at dksX4_weigh_3 3 rfl rfl)
theorem dX4_weigh_78 : decode cX4_weigh 78 = .ok (.ifCond .ne 5, 3) := dk_154 0 5 (dk_at dksX4_weigh_3 6 rfl rfl)
theorem dX4_weigh_81 : decode cX4_weigh 81 = .ok (.iconst (-1), 1) := dk_2 (dk_at dksX4_weigh_3 9 rfl rfl)
theorem dX4_weigh_82 : decode cX4_weigh 82 = .ok (.ireturn, 1) := dk_172 (dk_at dksX4_weigh_3 10 rfl rfl)
theorem dX4_weigh_83 : decode cX4_weigh 83 = .ok (.aload_n 0, 1) := dk_42 (dk_at dksX4_weigh_3 11 rfl rfl)
theorem dX4_weigh_84 : decode cX4_weigh 84 = .ok (.getfield 13, 3) := dk_180 0 13 (dk_at dksX4_weigh_3 12 rfl rfl)
theorem dX4_weigh_87 : decode cX4_weigh 87 = .ok (.sipush 661, 3) := dk_17 2 149 (dk_at dksX4_weigh_3 15 rfl rfl)
theorem dX4_weigh_90 : decode cX4_weigh 90 = .ok (.iload_n 1, 1) := dk_27 (dk_at dksX4_weigh_3 18 rfl rfl)
theorem dX4_weigh_91 : decode cX4_weigh 91 = .ok (.iadd, 1) := dk_96 (dk_at dksX4_weigh_3 19 rfl rfl)
theorem dX4_weigh_92 : decode cX4_weigh 92 = .ok (.iaload, 1) := dk_46 (dk_at dksX4_weigh_3 20 rfl rfl)
theorem dX4_weigh_93 : decode cX4_weigh 93 = .ok (.istore 6, 2) := dk_54 6 (dk_at dksX4_weigh_3 21 rfl rfl)
theorem dX4_weigh_95 : decode cX4_weigh 95 = .ok (.aload_n 0, 1) := dk_42 (dk_at dksX4_weigh_3 23 rfl rfl)
theorem dX4_weigh_96 : decode cX4_weigh 96 = .ok (.getfield 13, 3) := dk_180 0 13 (dk_at dksX4_weigh_4 0 rfl rfl)
theorem dX4_weigh_99 : decode cX4_weigh 99 = .ok (.sipush 665, 3) := dk_17 2 153 (dk_at dksX4_weigh_4 3 rfl rfl)
theorem dX4_weigh_102 : decode cX4_weigh 102 = .ok (.iload_n 1, 1) := dk_27 (dk_at dksX4_weigh_4 6 rfl rfl)
theorem dX4_weigh_103 : decode cX4_weigh 103 = .ok (.iadd, 1) := dk_96 (dk_at dksX4_weigh_4 7 rfl rfl)
theorem dX4_weigh_104 : decode cX4_weigh 104 = .ok (.iaload, 1) := dk_46 (dk_at dksX4_weigh_4 8 rfl rfl)
theorem dX4_weigh_105 : decode cX4_weigh 105 = .ok (.istore 7, 2) := dk_54 7 (dk_at dksX4_weigh_4 9 rfl rfl)
theorem dX4_weigh_107 : decode cX4_weigh 107 = .ok (.iload 4, 2) := dk_21 4 (dk_at dksX4_weigh_4 11 rfl rfl)
theorem dX4_weigh_109 : decode cX4_weigh 109 = .ok (.ifCond .ne 16, 3) := dk_154 0 16 (dk_at dksX4_weigh_4 13 rfl rfl)
theorem dX4_weigh_112 : decode cX4_weigh 112 = .ok (.aload_n 0, 1) := dk_42 (dk_at dksX4_weigh_4 16 rfl rfl)
theorem dX4_weigh_113 : decode cX4_weigh 113 = .ok (.getfield 13, 3) := dk_180 0 13 (dk_at dksX4_weigh_4 17 rfl rfl)
theorem dX4_weigh_116 : decode cX4_weigh 116 = .ok (.sipush 669, 3) := dk_17 2 157 (dk_at dksX4_weigh_4 20 rfl rfl)
theorem dX4_weigh_119 : decode cX4_weigh 119 = .ok (.iload_n 1, 1) := dk_27 (dk_at dksX4_weigh_4 23 rfl rfl)
theorem dX4_weigh_120 : decode cX4_weigh 120 = .ok (.iadd, 1) := dk_96 (dk_at dksX4_weigh_5 0 rfl rfl)
theorem dX4_weigh_121 : decode cX4_weigh 121 = .ok (.iaload, 1) := dk_46 (dk_at dksX4_weigh_5 1 rfl rfl)
theorem dX4_weigh_122 : decode cX4_weigh 122 = .ok (.goto 4, 3) := dk_167 0 4 (dk_at dksX4_weigh_5 2 rfl rfl)
theorem dX4_weigh_125 : decode cX4_weigh 125 = .ok (.iconst 0, 1) := dk_3 (dk_at dksX4_weigh_5 5 rfl rfl)
theorem dX4_weigh_126 : decode cX4_weigh 126 = .ok (.istore 8, 2) := dk_54 8 (dk_at dksX4_weigh_5 6 rfl rfl)
theorem dX4_weigh_128 : decode cX4_weigh 128 = .ok (.iload 6, 2) := dk_21 6 (dk_at dksX4_weigh_5 8 rfl rfl)
theorem dX4_weigh_130 : decode cX4_weigh 130 = .ok (.iload 4, 2) := dk_21 4 (dk_at dksX4_weigh_5 10 rfl rfl)
theorem dX4_weigh_132 : decode cX4_weigh 132 = .ok (.ifCond .ne 11, 3) := dk_154 0 11 (dk_at dksX4_weigh_5 12 rfl rfl)
theorem dX4_weigh_135 : decode cX4_weigh 135 = .ok (.iload_n 2, 1) := dk_28 (dk_at dksX4_weigh_5 15 rfl rfl)
theorem dX4_weigh_136 : decode cX4_weigh 136 = .ok (.iload_n 3, 1) := dk_29 (dk_at dksX4_weigh_5 16 rfl rfl)
theorem dX4_weigh_137 : decode cX4_weigh 137 = .ok (.ior, 1) := dk_128 (dk_at dksX4_weigh_5 17 rfl rfl)
theorem dX4_weigh_138 : decode cX4_weigh 138 = .ok (.iconst (-1), 1) := dk_2 (dk_at dksX4_weigh_5 18 rfl rfl)
theorem dX4_weigh_139 : decode cX4_weigh 139 = .ok (.ixor, 1) := dk_130 (dk_at dksX4_weigh_5 19 rfl rfl)
theorem dX4_weigh_140 : decode cX4_weigh 140 = .ok (.goto 14, 3) := dk_167 0 14 (dk_at dksX4_weigh_5 20 rfl rfl)
theorem dX4_weigh_143 : decode cX4_weigh 143 = .ok (.iload 4, 2) := dk_21 4 (dk_at dksX4_weigh_6 0 rfl rfl)
theorem dX4_weigh_145 : decode cX4_weigh 145 = .ok (.iconst 1, 1) := dk_4 (dk_at dksX4_weigh_6 2 rfl rfl)
theorem dX4_weigh_146 : decode cX4_weigh 146 = .ok (.if_icmp .ne 7, 3) := dk_160 0 7 (dk_at dksX4_weigh_6 3 rfl rfl)
theorem dX4_weigh_149 : decode cX4_weigh 149 = .ok (.iload_n 2, 1) := dk_28 (dk_at dksX4_weigh_6 6 rfl rfl)
theorem dX4_weigh_150 : decode cX4_weigh 150 = .ok (.goto 4, 3) := dk_167 0 4 (dk_at dksX4_weigh_6 7 rfl rfl)
theorem dX4_weigh_153 : decode cX4_weigh 153 = .ok (.iload_n 3, 1) := dk_29 (dk_at dksX4_weigh_6 10 rfl rfl)
theorem dX4_weigh_154 : decode cX4_weigh 154 = .ok (.iand, 1) := dk_126 (dk_at dksX4_weigh_6 11 rfl rfl)
theorem dX4_weigh_155 : decode cX4_weigh 155 = .ok (.istore 6, 2) := dk_54 6 (dk_at dksX4_weigh_6 12 rfl rfl)
theorem dX4_weigh_157 : decode cX4_weigh 157 = .ok (.iload 7, 2) := dk_21 7 (dk_at dksX4_weigh_6 14 rfl rfl)
theorem dX4_weigh_159 : decode cX4_weigh 159 = .ok (.iload 4, 2) := dk_21 4 (dk_at dksX4_weigh_6 16 rfl rfl)
theorem dX4_weigh_161 : decode cX4_weigh 161 = .ok (.ifCond .ne 11, 3) := dk_154 0 11 (dk_at dksX4_weigh_6 18 rfl rfl)
theorem dX4_weigh_164 : decode cX4_weigh 164 = .ok (.iload_n 2, 1) := dk_28 (dk_at dksX4_weigh_6 21 rfl rfl)
theorem dX4_weigh_165 : decode cX4_weigh 165 = .ok (.iload_n 3, 1) := dk_29 (dk_at dksX4_weigh_6 22 rfl rfl)
theorem dX4_weigh_166 : decode cX4_weigh 166 = .ok (.ior, 1) := dk_128 (dk_at dksX4_weigh_6 23 rfl rfl)
theorem dX4_weigh_167 : decode cX4_weigh 167 = .ok (.iconst (-1), 1) := dk_2 (dk_at dksX4_weigh_7 0 rfl rfl)
theorem dX4_weigh_168 : decode cX4_weigh 168 = .ok (.ixor, 1) := dk_130 (dk_at dksX4_weigh_7 1 rfl rfl)
theorem dX4_weigh_169 : decode cX4_weigh 169 = .ok (.goto 14, 3) := dk_167 0 14 (dk_at dksX4_weigh_7 2 rfl rfl)
theorem dX4_weigh_172 : decode cX4_weigh 172 = .ok (.iload 4, 2) := dk_21 4 (dk_at dksX4_weigh_7 5 rfl rfl)
theorem dX4_weigh_174 : decode cX4_weigh 174 = .ok (.iconst 1, 1) := dk_4 (dk_at dksX4_weigh_7 7 rfl rfl)
theorem dX4_weigh_175 : decode cX4_weigh 175 = .ok (.if_icmp .ne 7, 3) := dk_160 0 7 (dk_at dksX4_weigh_7 8 rfl rfl)
theorem dX4_weigh_178 : decode cX4_weigh 178 = .ok (.iload_n 3, 1) := dk_29 (dk_at dksX4_weigh_7 11 rfl rfl)
theorem dX4_weigh_179 : decode cX4_weigh 179 = .ok (.goto 4, 3) := dk_167 0 4 (dk_at dksX4_weigh_7 12 rfl rfl)
theorem dX4_weigh_182 : decode cX4_weigh 182 = .ok (.iload_n 2, 1) := dk_28 (dk_at dksX4_weigh_7 15 rfl rfl)
theorem dX4_weigh_183 : decode cX4_weigh 183 = .ok (.iand, 1) := dk_126 (dk_at dksX4_weigh_7 16 rfl rfl)
theorem dX4_weigh_184 : decode cX4_weigh 184 = .ok (.istore 7, 2) := dk_54 7 (dk_at dksX4_weigh_7 17 rfl rfl)
theorem dX4_weigh_186 : decode cX4_weigh 186 = .ok (.iload 6, 2) := dk_21 6 (dk_at dksX4_weigh_7 19 rfl rfl)
theorem dX4_weigh_188 : decode cX4_weigh 188 = .ok (.invokestatic 244, 3) := dk_184 0 244 (dk_at dksX4_weigh_7 21 rfl rfl)
theorem dX4_weigh_191 : decode cX4_weigh 191 = .ok (.iload 7, 2) := dk_21 7 (dk_at dksX4_weigh_8 0 rfl rfl)
theorem dX4_weigh_193 : decode cX4_weigh 193 = .ok (.invokestatic 244, 3) := dk_184 0 244 (dk_at dksX4_weigh_8 2 rfl rfl)
theorem dX4_weigh_196 : decode cX4_weigh 196 = .ok (.iadd, 1) := dk_96 (dk_at dksX4_weigh_8 5 rfl rfl)
theorem dX4_weigh_197 : decode cX4_weigh 197 = .ok (.iload 8, 2) := dk_21 8 (dk_at dksX4_weigh_8 6 rfl rfl)
theorem dX4_weigh_199 : decode cX4_weigh 199 = .ok (.iadd, 1) := dk_96 (dk_at dksX4_weigh_8 8 rfl rfl)
theorem dX4_weigh_200 : decode cX4_weigh 200 = .ok (.istore 9, 2) := dk_54 9 (dk_at dksX4_weigh_8 9 rfl rfl)
theorem dX4_weigh_202 : decode cX4_weigh 202 = .ok (.iload 9, 2) := dk_21 9 (dk_at dksX4_weigh_8 11 rfl rfl)
theorem dX4_weigh_204 : decode cX4_weigh 204 = .ok (.ifCond .ne 6, 3) := dk_154 0 6 (dk_at dksX4_weigh_8 13 rfl rfl)
theorem dX4_weigh_207 : decode cX4_weigh 207 = .ok (.bipush (-2), 2) := dk_16 254 (dk_at dksX4_weigh_8 16 rfl rfl)
theorem dX4_weigh_209 : decode cX4_weigh 209 = .ok (.ireturn, 1) := dk_172 (dk_at dksX4_weigh_8 18 rfl rfl)
theorem dX4_weigh_210 : decode cX4_weigh 210 = .ok (.aload_n 0, 1) := dk_42 (dk_at dksX4_weigh_8 19 rfl rfl)
theorem dX4_weigh_211 : decode cX4_weigh 211 = .ok (.getfield 13, 3) := dk_180 0 13 (dk_at dksX4_weigh_8 20 rfl rfl)
theorem dX4_weigh_214 : decode cX4_weigh 214 = .ok (.sipush 673, 3) := dk_17 2 161 (dk_at dksX4_weigh_9 0 rfl rfl)
theorem dX4_weigh_217 : decode cX4_weigh 217 = .ok (.iload_n 1, 1) := dk_27 (dk_at dksX4_weigh_9 3 rfl rfl)
theorem dX4_weigh_218 : decode cX4_weigh 218 = .ok (.iadd, 1) := dk_96 (dk_at dksX4_weigh_9 4 rfl rfl)
theorem dX4_weigh_219 : decode cX4_weigh 219 = .ok (.iaload, 1) := dk_46 (dk_at dksX4_weigh_9 5 rfl rfl)
theorem dX4_weigh_220 : decode cX4_weigh 220 = .ok (.bipush 20, 2) := dk_16 20 (dk_at dksX4_weigh_9 6 rfl rfl)
theorem dX4_weigh_222 : decode cX4_weigh 222 = .ok (.if_icmp .ne 6, 3) := dk_160 0 6 (dk_at dksX4_weigh_9 8 rfl rfl)
theorem dX4_weigh_225 : decode cX4_weigh 225 = .ok (.bipush (-3), 2) := dk_16 253 (dk_at dksX4_weigh_9 11 rfl rfl)
theorem dX4_weigh_227 : decode cX4_weigh 227 = .ok (.ireturn, 1) := dk_172 (dk_at dksX4_weigh_9 13 rfl rfl)
theorem dX4_weigh_228 : decode cX4_weigh 228 = .ok (.aload_n 0, 1) := dk_42 (dk_at dksX4_weigh_9 14 rfl rfl)
theorem dX4_weigh_229 : decode cX4_weigh 229 = .ok (.invokevirtual 249, 3) := dk_182 0 249 (dk_at dksX4_weigh_9 15 rfl rfl)
theorem dX4_weigh_232 : decode cX4_weigh 232 = .ok (.aload_n 0, 1) := dk_42 (dk_at dksX4_weigh_9 18 rfl rfl)
theorem dX4_weigh_233 : decode cX4_weigh 233 = .ok (.getfield 13, 3) := dk_180 0 13 (dk_at dksX4_weigh_9 19 rfl rfl)
theorem dX4_weigh_236 : decode cX4_weigh 236 = .ok (.sipush 661, 3) := dk_17 2 149 (dk_at dksX4_weigh_10 0 rfl rfl)
theorem dX4_weigh_239 : decode cX4_weigh 239 = .ok (.iload_n 1, 1) := dk_27 (dk_at dksX4_weigh_10 3 rfl rfl)
theorem dX4_weigh_240 : decode cX4_weigh 240 = .ok (.iadd, 1) := dk_96 (dk_at dksX4_weigh_10 4 rfl rfl)
theorem dX4_weigh_241 : decode cX4_weigh 241 = .ok (.iload 6, 2) := dk_21 6 (dk_at dksX4_weigh_10 5 rfl rfl)
theorem dX4_weigh_243 : decode cX4_weigh 243 = .ok (.iastore, 1) := dk_79 (dk_at dksX4_weigh_10 7 rfl rfl)
theorem dX4_weigh_244 : decode cX4_weigh 244 = .ok (.aload_n 0, 1) := dk_42 (dk_at dksX4_weigh_10 8 rfl rfl)
theorem dX4_weigh_245 : decode cX4_weigh 245 = .ok (.getfield 13, 3) := dk_180 0 13 (dk_at dksX4_weigh_10 9 rfl rfl)
theorem dX4_weigh_248 : decode cX4_weigh 248 = .ok (.sipush 665, 3) := dk_17 2 153 (dk_at dksX4_weigh_10 12 rfl rfl)
theorem dX4_weigh_251 : decode cX4_weigh 251 = .ok (.iload_n 1, 1) := dk_27 (dk_at dksX4_weigh_10 15 rfl rfl)
theorem dX4_weigh_252 : decode cX4_weigh 252 = .ok (.iadd, 1) := dk_96 (dk_at dksX4_weigh_10 16 rfl rfl)
theorem dX4_weigh_253 : decode cX4_weigh 253 = .ok (.iload 7, 2) := dk_21 7 (dk_at dksX4_weigh_10 17 rfl rfl)
theorem dX4_weigh_255 : decode cX4_weigh 255 = .ok (.iastore, 1) := dk_79 (dk_at dksX4_weigh_10 19 rfl rfl)
theorem dX4_weigh_256 : decode cX4_weigh 256 = .ok (.aload_n 0, 1) := dk_42 (dk_at dksX4_weigh_10 20 rfl rfl)
theorem dX4_weigh_257 : decode cX4_weigh 257 = .ok (.getfield 13, 3) := dk_180 0 13 (dk_at dksX4_weigh_10 21 rfl rfl)
theorem dX4_weigh_260 : decode cX4_weigh 260 = .ok (.sipush 669, 3) := dk_17 2 157 (dk_at dksX4_weigh_11 0 rfl rfl)
theorem dX4_weigh_263 : decode cX4_weigh 263 = .ok (.iload_n 1, 1) := dk_27 (dk_at dksX4_weigh_11 3 rfl rfl)
theorem dX4_weigh_264 : decode cX4_weigh 264 = .ok (.iadd, 1) := dk_96 (dk_at dksX4_weigh_11 4 rfl rfl)
theorem dX4_weigh_265 : decode cX4_weigh 265 = .ok (.iload 8, 2) := dk_21 8 (dk_at dksX4_weigh_11 5 rfl rfl)
theorem dX4_weigh_267 : decode cX4_weigh 267 = .ok (.iastore, 1) := dk_79 (dk_at dksX4_weigh_11 7 rfl rfl)
theorem dX4_weigh_268 : decode cX4_weigh 268 = .ok (.aload_n 0, 1) := dk_42 (dk_at dksX4_weigh_11 8 rfl rfl)
theorem dX4_weigh_269 : decode cX4_weigh 269 = .ok (.getfield 13, 3) := dk_180 0 13 (dk_at dksX4_weigh_11 9 rfl rfl)
theorem dX4_weigh_272 : decode cX4_weigh 272 = .ok (.sipush 673, 3) := dk_17 2 161 (dk_at dksX4_weigh_11 12 rfl rfl)
theorem dX4_weigh_275 : decode cX4_weigh 275 = .ok (.iload_n 1, 1) := dk_27 (dk_at dksX4_weigh_11 15 rfl rfl)
theorem dX4_weigh_276 : decode cX4_weigh 276 = .ok (.iadd, 1) := dk_96 (dk_at dksX4_weigh_11 16 rfl rfl)
theorem dX4_weigh_277 : decode cX4_weigh 277 = .ok (.dup2, 1) := dk_92 (dk_at dksX4_weigh_11 17 rfl rfl)
theorem dX4_weigh_278 : decode cX4_weigh 278 = .ok (.iaload, 1) := dk_46 (dk_at dksX4_weigh_11 18 rfl rfl)
theorem dX4_weigh_279 : decode cX4_weigh 279 = .ok (.iconst 1, 1) := dk_4 (dk_at dksX4_weigh_11 19 rfl rfl)
theorem dX4_weigh_280 : decode cX4_weigh 280 = .ok (.iadd, 1) := dk_96 (dk_at dksX4_weigh_11 20 rfl rfl)
theorem dX4_weigh_281 : decode cX4_weigh 281 = .ok (.iastore, 1) := dk_79 (dk_at dksX4_weigh_11 21 rfl rfl)
theorem dX4_weigh_282 : decode cX4_weigh 282 = .ok (.iload 9, 2) := dk_21 9 (dk_at dksX4_weigh_11 22 rfl rfl)
theorem dX4_weigh_284 : decode cX4_weigh 284 = .ok (.ireturn, 1) := dk_172 (dk_at dksX4_weigh_12 0 rfl rfl)
abbrev cX4_weighingCount : ByteArray := prog_21_method_81_code
def yX4_weighingCount : MethodName := ⟨RX4, "weighingCount", "(I)I"⟩
def dkwX4_weighingCount_1 : List UInt8 := [167, 0, 4, 2, 172]
abbrev dktX4_weighingCount_1 : List UInt8 := dkwX4_weighingCount_1 ++ []
def dkwX4_weighingCount_0 : List UInt8 := [42, 3, 181, 0, 1, 42, 27, 182, 1, 67, 153, 0, 16, 42, 180, 0, 13, 17, 2, 161, 27, 96, 46]
abbrev dktX4_weighingCount_0 : List UInt8 := dkwX4_weighingCount_0 ++ dktX4_weighingCount_1
theorem dksX4_weighingCount_0 : cX4_weighingCount.data.toList.drop 0 = dktX4_weighingCount_0 := by decide +kernel
theorem dksX4_weighingCount_1 : cX4_weighingCount.data.toList.drop 23 = dktX4_weighingCount_1 := dk_seg dksX4_weighingCount_0 23 rfl rfl
theorem dX4_weighingCount_0 : decode cX4_weighingCount 0 = .ok (.aload_n 0, 1) := dk_42 (dk_at dksX4_weighingCount_0 0 rfl rfl)
theorem dX4_weighingCount_1 : decode cX4_weighingCount 1 = .ok (.iconst 0, 1) := dk_3 (dk_at dksX4_weighingCount_0 1 rfl rfl)
theorem dX4_weighingCount_2 : decode cX4_weighingCount 2 = .ok (.putfield 1, 3) := dk_181 0 1 (dk_at dksX4_weighingCount_0 2 rfl rfl)
theorem dX4_weighingCount_5 : decode cX4_weighingCount 5 = .ok (.aload_n 0, 1) := dk_42 (dk_at dksX4_weighingCount_0 5 rfl rfl)
theorem dX4_weighingCount_6 : decode cX4_weighingCount 6 = .ok (.iload_n 1, 1) := dk_27 (dk_at dksX4_weighingCount_0 6 rfl rfl)
theorem dX4_weighingCount_7 : decode cX4_weighingCount 7 = .ok (.invokevirtual 323, 3) := dk_182 1 67 (dk_at dksX4_weighingCount_0 7 rfl rfl)
theorem dX4_weighingCount_10 : decode cX4_weighingCount 10 = .ok (.ifCond .eq 16, 3) := dk_153 0 16 (dk_at dksX4_weighingCount_0 10 rfl rfl)
theorem dX4_weighingCount_13 : decode cX4_weighingCount 13 = .ok (.aload_n 0, 1) := dk_42 (dk_at dksX4_weighingCount_0 13 rfl rfl)
theorem dX4_weighingCount_14 : decode cX4_weighingCount 14 = .ok (.getfield 13, 3) := dk_180 0 13 (dk_at dksX4_weighingCount_0 14 rfl rfl)
theorem dX4_weighingCount_17 : decode cX4_weighingCount 17 = .ok (.sipush 673, 3) := dk_17 2 161 (dk_at dksX4_weighingCount_0 17 rfl rfl)
theorem dX4_weighingCount_20 : decode cX4_weighingCount 20 = .ok (.iload_n 1, 1) := dk_27 (dk_at dksX4_weighingCount_0 20 rfl rfl)
theorem dX4_weighingCount_21 : decode cX4_weighingCount 21 = .ok (.iadd, 1) := dk_96 (dk_at dksX4_weighingCount_0 21 rfl rfl)
theorem dX4_weighingCount_22 : decode cX4_weighingCount 22 = .ok (.iaload, 1) := dk_46 (dk_at dksX4_weighingCount_0 22 rfl rfl)
theorem dX4_weighingCount_23 : decode cX4_weighingCount 23 = .ok (.goto 4, 3) := dk_167 0 4 (dk_at dksX4_weighingCount_1 0 rfl rfl)
theorem dX4_weighingCount_26 : decode cX4_weighingCount 26 = .ok (.iconst (-1), 1) := dk_2 (dk_at dksX4_weighingCount_1 3 rfl rfl)
theorem dX4_weighingCount_27 : decode cX4_weighingCount 27 = .ok (.ireturn, 1) := dk_172 (dk_at dksX4_weighingCount_1 4 rfl rfl)
abbrev cX4_hypothesisCount : ByteArray := prog_21_method_82_code
def yX4_hypothesisCount : MethodName := ⟨RX4, "hypothesisCount", "(I)I"⟩
def dkwX4_hypothesisCount_0 : List UInt8 := [42, 3, 181, 0, 1, 42, 27, 182, 1, 67, 153, 0, 11, 42, 27, 182, 1, 72, 167, 0, 4, 2, 172]
abbrev dktX4_hypothesisCount_0 : List UInt8 := dkwX4_hypothesisCount_0 ++ []
theorem dksX4_hypothesisCount_0 : cX4_hypothesisCount.data.toList.drop 0 = dktX4_hypothesisCount_0 := by decide +kernel
theorem dX4_hypothesisCount_0 : decode cX4_hypothesisCount 0 = .ok (.aload_n 0, 1) := dk_42 (dk_at dksX4_hypothesisCount_0 0 rfl rfl)
theorem dX4_hypothesisCount_1 : decode cX4_hypothesisCount 1 = .ok (.iconst 0, 1) := dk_3 (dk_at dksX4_hypothesisCount_0 1 rfl rfl)
theorem dX4_hypothesisCount_2 : decode cX4_hypothesisCount 2 = .ok (.putfield 1, 3) := dk_181 0 1 (dk_at dksX4_hypothesisCount_0 2 rfl rfl)
theorem dX4_hypothesisCount_5 : decode cX4_hypothesisCount 5 = .ok (.aload_n 0, 1) := dk_42 (dk_at dksX4_hypothesisCount_0 5 rfl rfl)
theorem dX4_hypothesisCount_6 : decode cX4_hypothesisCount 6 = .ok (.iload_n 1, 1) := dk_27 (dk_at dksX4_hypothesisCount_0 6 rfl rfl)
theorem dX4_hypothesisCount_7 : decode cX4_hypothesisCount 7 = .ok (.invokevirtual 323, 3) := dk_182 1 67 (dk_at dksX4_hypothesisCount_0 7 rfl rfl)
theorem dX4_hypothesisCount_10 : decode cX4_hypothesisCount 10 = .ok (.ifCond .eq 11, 3) := dk_153 0 11 (dk_at dksX4_hypothesisCount_0 10 rfl rfl)
theorem dX4_hypothesisCount_13 : decode cX4_hypothesisCount 13 = .ok (.aload_n 0, 1) := dk_42 (dk_at dksX4_hypothesisCount_0 13 rfl rfl)
theorem dX4_hypothesisCount_14 : decode cX4_hypothesisCount 14 = .ok (.iload_n 1, 1) := dk_27 (dk_at dksX4_hypothesisCount_0 14 rfl rfl)
theorem dX4_hypothesisCount_15 : decode cX4_hypothesisCount 15 = .ok (.invokevirtual 328, 3) := dk_182 1 72 (dk_at dksX4_hypothesisCount_0 15 rfl rfl)
theorem dX4_hypothesisCount_18 : decode cX4_hypothesisCount 18 = .ok (.goto 4, 3) := dk_167 0 4 (dk_at dksX4_hypothesisCount_0 18 rfl rfl)
theorem dX4_hypothesisCount_21 : decode cX4_hypothesisCount 21 = .ok (.iconst (-1), 1) := dk_2 (dk_at dksX4_hypothesisCount_0 21 rfl rfl)
theorem dX4_hypothesisCount_22 : decode cX4_hypothesisCount 22 = .ok (.ireturn, 1) := dk_172 (dk_at dksX4_hypothesisCount_0 22 rfl rfl)
abbrev cX4_countOf : ByteArray := prog_21_method_78_code
def yX4_countOf : MethodName := ⟨RX4, "countOf", "(I)I"⟩
def dkwX4_countOf_1 : List UInt8 := [184, 0, 244, 96, 42, 180, 0, 13, 17, 2, 157, 27, 96, 46, 96, 172]
abbrev dktX4_countOf_1 : List UInt8 := dkwX4_countOf_1 ++ []
def dkwX4_countOf_0 : List UInt8 := [42, 180, 0, 13, 17, 2, 149, 27, 96, 46, 184, 0, 244, 42, 180, 0, 13, 17, 2, 153, 27, 96, 46]
abbrev dktX4_countOf_0 : List UInt8 := dkwX4_countOf_0 ++ dktX4_countOf_1
theorem dksX4_countOf_0 : cX4_countOf.data.toList.drop 0 = dktX4_countOf_0 := by decide +kernel
theorem dksX4_countOf_1 : cX4_countOf.data.toList.drop 23 = dktX4_countOf_1 := dk_seg dksX4_countOf_0 23 rfl rfl
theorem dX4_countOf_0 : decode cX4_countOf 0 = .ok (.aload_n 0, 1) := dk_42 (dk_at dksX4_countOf_0 0 rfl rfl)
theorem dX4_countOf_1 : decode cX4_countOf 1 = .ok (.getfield 13, 3) := dk_180 0 13 (dk_at dksX4_countOf_0 1 rfl rfl)
theorem dX4_countOf_4 : decode cX4_countOf 4 = .ok (.sipush 661, 3) := dk_17 2 149 (dk_at dksX4_countOf_0 4 rfl rfl)
theorem dX4_countOf_7 : decode cX4_countOf 7 = .ok (.iload_n 1, 1) := dk_27 (dk_at dksX4_countOf_0 7 rfl rfl)
theorem dX4_countOf_8 : decode cX4_countOf 8 = .ok (.iadd, 1) := dk_96 (dk_at dksX4_countOf_0 8 rfl rfl)
theorem dX4_countOf_9 : decode cX4_countOf 9 = .ok (.iaload, 1) := dk_46 (dk_at dksX4_countOf_0 9 rfl rfl)
theorem dX4_countOf_10 : decode cX4_countOf 10 = .ok (.invokestatic 244, 3) := dk_184 0 244 (dk_at dksX4_countOf_0 10 rfl rfl)
theorem dX4_countOf_13 : decode cX4_countOf 13 = .ok (.aload_n 0, 1) := dk_42 (dk_at dksX4_countOf_0 13 rfl rfl)
theorem dX4_countOf_14 : decode cX4_countOf 14 = .ok (.getfield 13, 3) := dk_180 0 13 (dk_at dksX4_countOf_0 14 rfl rfl)
theorem dX4_countOf_17 : decode cX4_countOf 17 = .ok (.sipush 665, 3) := dk_17 2 153 (dk_at dksX4_countOf_0 17 rfl rfl)
theorem dX4_countOf_20 : decode cX4_countOf 20 = .ok (.iload_n 1, 1) := dk_27 (dk_at dksX4_countOf_0 20 rfl rfl)
theorem dX4_countOf_21 : decode cX4_countOf 21 = .ok (.iadd, 1) := dk_96 (dk_at dksX4_countOf_0 21 rfl rfl)
theorem dX4_countOf_22 : decode cX4_countOf 22 = .ok (.iaload, 1) := dk_46 (dk_at dksX4_countOf_0 22 rfl rfl)
theorem dX4_countOf_23 : decode cX4_countOf 23 = .ok (.invokestatic 244, 3) := dk_184 0 244 (dk_at dksX4_countOf_1 0 rfl rfl)
theorem dX4_countOf_26 : decode cX4_countOf 26 = .ok (.iadd, 1) := dk_96 (dk_at dksX4_countOf_1 3 rfl rfl)
theorem dX4_countOf_27 : decode cX4_countOf 27 = .ok (.aload_n 0, 1) := dk_42 (dk_at dksX4_countOf_1 4 rfl rfl)
theorem dX4_countOf_28 : decode cX4_countOf 28 = .ok (.getfield 13, 3) := dk_180 0 13 (dk_at dksX4_countOf_1 5 rfl rfl)
theorem dX4_countOf_31 : decode cX4_countOf 31 = .ok (.sipush 669, 3) := dk_17 2 157 (dk_at dksX4_countOf_1 8 rfl rfl)
theorem dX4_countOf_34 : decode cX4_countOf 34 = .ok (.iload_n 1, 1) := dk_27 (dk_at dksX4_countOf_1 11 rfl rfl)
theorem dX4_countOf_35 : decode cX4_countOf 35 = .ok (.iadd, 1) := dk_96 (dk_at dksX4_countOf_1 12 rfl rfl)
theorem dX4_countOf_36 : decode cX4_countOf 36 = .ok (.iaload, 1) := dk_46 (dk_at dksX4_countOf_1 13 rfl rfl)
theorem dX4_countOf_37 : decode cX4_countOf 37 = .ok (.iadd, 1) := dk_96 (dk_at dksX4_countOf_1 14 rfl rfl)
theorem dX4_countOf_38 : decode cX4_countOf 38 = .ok (.ireturn, 1) := dk_172 (dk_at dksX4_countOf_1 15 rfl rfl)

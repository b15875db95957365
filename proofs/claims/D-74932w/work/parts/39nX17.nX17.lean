set_option maxRecDepth 100000
/-! ScaleInspection$BestWeighing -/
abbrev cX17_init : ByteArray := prog_7_method_1_code
def yX17_init : MethodName := ⟨RX17, "<init>", "(LScaleInspection;ILScaleInspection$Hypotheses;)V"⟩
def dkwX17_init_5 : List UInt8 := [177]
abbrev dktX17_init_5 : List UInt8 := dkwX17_init_5 ++ []
def dkwX17_init_4 : List UInt8 := [181, 0, 42, 42, 43, 28, 45, 182, 0, 45, 181, 0, 49, 42, 180, 0, 49, 158, 0, 7, 42, 182, 0, 52]
abbrev dktX17_init_4 : List UInt8 := dkwX17_init_4 ++ dktX17_init_5
def dkwX17_init_3 : List UInt8 := [126, 181, 0, 41, 42, 4, 28, 120, 4, 100, 45, 180, 0, 29, 45, 180, 0, 34, 128, 2, 130, 126]
abbrev dktX17_init_3 : List UInt8 := dkwX17_init_3 ++ dktX17_init_4
def dkwX17_init_2 : List UInt8 := [180, 0, 29, 42, 180, 0, 37, 2, 130, 126, 181, 0, 40, 42, 45, 180, 0, 34, 42, 180, 0, 37, 2, 130]
abbrev dktX17_init_2 : List UInt8 := dkwX17_init_2 ++ dktX17_init_3
def dkwX17_init_1 : List UInt8 := [181, 0, 22, 42, 45, 181, 0, 25, 42, 45, 180, 0, 29, 45, 180, 0, 34, 126, 181, 0, 37, 42, 45]
abbrev dktX17_init_1 : List UInt8 := dkwX17_init_1 ++ dktX17_init_2
def dkwX17_init_0 : List UInt8 := [42, 43, 181, 0, 3, 42, 183, 0, 9, 42, 16, 254, 181, 0, 15, 42, 16, 254, 181, 0, 19, 42, 28]
abbrev dktX17_init_0 : List UInt8 := dkwX17_init_0 ++ dktX17_init_1
theorem dksX17_init_0 : cX17_init.data.toList.drop 0 = dktX17_init_0 := by decide +kernel
theorem dksX17_init_1 : cX17_init.data.toList.drop 23 = dktX17_init_1 := dk_seg dksX17_init_0 23 rfl rfl
theorem dksX17_init_2 : cX17_init.data.toList.drop 46 = dktX17_init_2 := dk_seg dksX17_init_1 23 rfl rfl
theorem dksX17_init_3 : cX17_init.data.toList.drop 70 = dktX17_init_3 := dk_seg dksX17_init_2 24 rfl rfl
theorem dksX17_init_4 : cX17_init.data.toList.drop 92 = dktX17_init_4 := dk_seg dksX17_init_3 22 rfl rfl
theorem dksX17_init_5 : cX17_init.data.toList.drop 116 = dktX17_init_5 := dk_seg dksX17_init_4 24 rfl rfl
theorem dX17_init_0 : decode cX17_init 0 = .ok (.aload_n 0, 1) := dk_42 (dk_at dksX17_init_0 0 rfl rfl)
theorem dX17_init_1 : decode cX17_init 1 = .ok (.aload_n 1, 1) := dk_43 (dk_at dksX17_init_0 1 rfl rfl)
theorem dX17_init_2 : decode cX17_init 2 = .ok (.putfield 3, 3) := dk_181 0 3 (dk_at dksX17_init_0 2 rfl rfl)
theorem dX17_init_5 : decode cX17_init 5 = .ok (.aload_n 0, 1) := dk_42 (dk_at dksX17_init_0 5 rfl rfl)
theorem dX17_init_6 : decode cX17_init 6 = .ok (.invokespecial 9, 3) := dk_183 0 9 (dk_at dksX17_init_0 6 rfl rfl)
theorem dX17_init_9 : decode cX17_init 9 = .ok (.aload_n 0, 1) := dk_42 (dk_at dksX17_init_0 9 rfl rfl)
theorem dX17_init_10 : decode cX17_init 10 = .ok (.bipush (-2), 2) := dk_16 254 (dk_at dksX17_init_0 10 rfl rfl)
theorem dX17_init_12 : decode cX17_init 12 = .ok (.putfield 15, 3) := dk_181 0 15 (dk_at dksX17_init_0 12 rfl rfl)
theorem dX17_init_15 : decode cX17_init 15 = .ok (.aload_n 0, 1) := dk_42 (dk_at dksX17_init_0 15 rfl rfl)
theorem dX17_init_16 : decode cX17_init 16 = .ok (.bipush (-2), 2) := dk_16 254 (dk_at dksX17_init_0 16 rfl rfl)
theorem dX17_init_18 : decode cX17_init 18 = .ok (.putfield 19, 3) := dk_181 0 19 (dk_at dksX17_init_0 18 rfl rfl)
theorem dX17_init_21 : decode cX17_init 21 = .ok (.aload_n 0, 1) := dk_42 (dk_at dksX17_init_0 21 rfl rfl)
theorem dX17_init_22 : decode cX17_init 22 = .ok (.iload_n 2, 1) := dk_28 (dk_at dksX17_init_0 22 rfl rfl)
theorem dX17_init_23 : decode cX17_init 23 = .ok (.putfield 22, 3) := dk_181 0 22 (dk_at dksX17_init_1 0 rfl rfl)
theorem dX17_init_26 : decode cX17_init 26 = .ok (.aload_n 0, 1) := dk_42 (dk_at dksX17_init_1 3 rfl rfl)
theorem dX17_init_27 : decode cX17_init 27 = .ok (.aload_n 3, 1) := dk_45 (dk_at dksX17_init_1 4 rfl rfl)
theorem dX17_init_28 : decode cX17_init 28 = .ok (.putfield 25, 3) := dk_181 0 25 (dk_at dksX17_init_1 5 rfl rfl)
theorem dX17_init_31 : decode cX17_init 31 = .ok (.aload_n 0, 1) := dk_42 (dk_at dksX17_init_1 8 rfl rfl)
theorem dX17_init_32 : decode cX17_init 32 = .ok (.aload_n 3, 1) := dk_45 (dk_at dksX17_init_1 9 rfl rfl)
theorem dX17_init_33 : decode cX17_init 33 = .ok (.getfield 29, 3) := dk_180 0 29 (dk_at dksX17_init_1 10 rfl rfl)
theorem dX17_init_36 : decode cX17_init 36 = .ok (.aload_n 3, 1) := dk_45 (dk_at dksX17_init_1 13 rfl rfl)
theorem dX17_init_37 : decode cX17_init 37 = .ok (.getfield 34, 3) := dk_180 0 34 (dk_at dksX17_init_1 14 rfl rfl)
theorem dX17_init_40 : decode cX17_init 40 = .ok (.iand, 1) := dk_126 (dk_at dksX17_init_1 17 rfl rfl)
theorem dX17_init_41 : decode cX17_init 41 = .ok (.putfield 37, 3) := dk_181 0 37 (dk_at dksX17_init_1 18 rfl rfl)
theorem dX17_init_44 : decode cX17_init 44 = .ok (.aload_n 0, 1) := dk_42 (dk_at dksX17_init_1 21 rfl rfl)
theorem dX17_init_45 : decode cX17_init 45 = .ok (.aload_n 3, 1) := dk_45 (dk_at dksX17_init_1 22 rfl rfl)
theorem dX17_init_46 : decode cX17_init 46 = .ok (.getfield 29, 3) := dk_180 0 29 (dk_at dksX17_init_2 0 rfl rfl)
theorem dX17_init_49 : decode cX17_init 49 = .ok (.aload_n 0, 1) := dk_42 (dk_at dksX17_init_2 3 rfl rfl)
theorem dX17_init_50 : decode cX17_init 50 = .ok (.getfield 37, 3) := dk_180 0 37 (dk_at dksX17_init_2 4 rfl rfl)
theorem dX17_init_53 : decode cX17_init 53 = .ok (.iconst (-1), 1) := dk_2 (dk_at dksX17_init_2 7 rfl rfl)
theorem dX17_init_54 : decode cX17_init 54 = .ok (.ixor, 1) := dk_130 (dk_at dksX17_init_2 8 rfl rfl)
theorem dX17_init_55 : decode cX17_init 55 = .ok (.iand, 1) := dk_126 (dk_at dksX17_init_2 9 rfl rfl)
theorem dX17_init_56 : decode cX17_init 56 = .ok (.putfield 40, 3) := dk_181 0 40 (dk_at dksX17_init_2 10 rfl rfl)
theorem dX17_init_59 : decode cX17_init 59 = .ok (.aload_n 0, 1) := dk_42 (dk_at dksX17_init_2 13 rfl rfl)
theorem dX17_init_60 : decode cX17_init 60 = .ok (.aload_n 3, 1) := dk_45 (dk_at dksX17_init_2 14 rfl rfl)
theorem dX17_init_61 : decode cX17_init 61 = .ok (.getfield 34, 3) := dk_180 0 34 (dk_at dksX17_init_2 15 rfl rfl)
theorem dX17_init_64 : decode cX17_init 64 = .ok (.aload_n 0, 1) := dk_42 (dk_at dksX17_init_2 18 rfl rfl)
theorem dX17_init_65 : decode cX17_init 65 = .ok (.getfield 37, 3) := dk_180 0 37 (dk_at dksX17_init_2 19 rfl rfl)
theorem dX17_init_68 : decode cX17_init 68 = .ok (.iconst (-1), 1) := dk_2 (dk_at dksX17_init_2 22 rfl rfl)
theorem dX17_init_69 : decode cX17_init 69 = .ok (.ixor, 1) := dk_130 (dk_at dksX17_init_2 23 rfl rfl)
theorem dX17_init_70 : decode cX17_init 70 = .ok (.iand, 1) := dk_126 (dk_at dksX17_init_3 0 rfl rfl)
theorem dX17_init_71 : decode cX17_init 71 = .ok (.putfield 41, 3) := dk_181 0 41 (dk_at dksX17_init_3 1 rfl rfl)
theorem dX17_init_74 : decode cX17_init 74 = .ok (.aload_n 0, 1) := dk_42 (dk_at dksX17_init_3 4 rfl rfl)
theorem dX17_init_75 : decode cX17_init 75 = .ok (.iconst 1, 1) := dk_4 (dk_at dksX17_init_3 5 rfl rfl)
theorem dX17_init_76 : decode cX17_init 76 = .ok (.iload_n 2, 1) := dk_28 (dk_at dksX17_init_3 6 rfl rfl)
theorem dX17_init_77 : decode cX17_init 77 = .ok (.ishl, 1) := dk_120 (dk_at dksX17_init_3 7 rfl rfl)
theorem dX17_init_78 : decode cX17_init 78 = .ok (.iconst 1, 1) := dk_4 (dk_at dksX17_init_3 8 rfl rfl)
theorem dX17_init_79 : decode cX17_init 79 = .ok (.isub, 1) := dk_100 (dk_at dksX17_init_3 9 rfl rfl)
theorem dX17_init_80 : decode cX17_init 80 = .ok (.aload_n 3, 1) := dk_45 (dk_at dksX17_init_3 10 rfl rfl)
theorem dX17_init_81 : decode cX17_init 81 = .ok (.getfield 29, 3) := dk_180 0 29 (dk_at dksX17_init_3 11 rfl rfl)
theorem dX17_init_84 : decode cX17_init 84 = .ok (.aload_n 3, 1) := dk_45 (dk_at dksX17_init_3 14 rfl rfl)
theorem dX17_init_85 : decode cX17_init 85 = .ok (.getfield 34, 3) := dk_180 0 34 (dk_at dksX17_init_3 15 rfl rfl)
theorem dX17_init_88 : decode cX17_init 88 = .ok (.ior, 1) := dk_128 (dk_at dksX17_init_3 18 rfl rfl)
theorem dX17_init_89 : decode cX17_init 89 = .ok (.iconst (-1), 1) := dk_2 (dk_at dksX17_init_3 19 rfl rfl)
theorem dX17_init_90 : decode cX17_init 90 = .ok (.ixor, 1) := dk_130 (dk_at dksX17_init_3 20 rfl rfl)
theorem dX17_init_91 : decode cX17_init 91 = .ok (.iand, 1) := dk_126 (dk_at dksX17_init_3 21 rfl rfl)
theorem dX17_init_92 : decode cX17_init 92 = .ok (.putfield 42, 3) := dk_181 0 42 (dk_at dksX17_init_4 0 rfl rfl)
theorem dX17_init_95 : decode cX17_init 95 = .ok (.aload_n 0, 1) := dk_42 (dk_at dksX17_init_4 3 rfl rfl)
theorem dX17_init_96 : decode cX17_init 96 = .ok (.aload_n 1, 1) := dk_43 (dk_at dksX17_init_4 4 rfl rfl)
theorem dX17_init_97 : decode cX17_init 97 = .ok (.iload_n 2, 1) := dk_28 (dk_at dksX17_init_4 5 rfl rfl)
theorem dX17_init_98 : decode cX17_init 98 = .ok (.aload_n 3, 1) := dk_45 (dk_at dksX17_init_4 6 rfl rfl)
theorem dX17_init_99 : decode cX17_init 99 = .ok (.invokevirtual 45, 3) := dk_182 0 45 (dk_at dksX17_init_4 7 rfl rfl)
theorem dX17_init_102 : decode cX17_init 102 = .ok (.putfield 49, 3) := dk_181 0 49 (dk_at dksX17_init_4 10 rfl rfl)
theorem dX17_init_105 : decode cX17_init 105 = .ok (.aload_n 0, 1) := dk_42 (dk_at dksX17_init_4 13 rfl rfl)
theorem dX17_init_106 : decode cX17_init 106 = .ok (.getfield 49, 3) := dk_180 0 49 (dk_at dksX17_init_4 14 rfl rfl)
theorem dX17_init_109 : decode cX17_init 109 = .ok (.ifCond .le 7, 3) := dk_158 0 7 (dk_at dksX17_init_4 17 rfl rfl)
theorem dX17_init_112 : decode cX17_init 112 = .ok (.aload_n 0, 1) := dk_42 (dk_at dksX17_init_4 20 rfl rfl)
theorem dX17_init_113 : decode cX17_init 113 = .ok (.invokevirtual 52, 3) := dk_182 0 52 (dk_at dksX17_init_4 21 rfl rfl)
theorem dX17_init_116 : decode cX17_init 116 = .ok (.return_, 1) := dk_177 (dk_at dksX17_init_5 0 rfl rfl)
abbrev cX17_search : ByteArray := prog_7_method_3_code
def yX17_search : MethodName := ⟨RX17, "search", "()V"⟩
def dkwX17_search_2 : List UInt8 := [132, 3, 1, 167, 255, 235, 132, 2, 1, 167, 255, 216, 132, 1, 1, 167, 255, 197, 177]
abbrev dktX17_search_2 : List UInt8 := dkwX17_search_2 ++ []
def dkwX17_search_1 : List UInt8 := [163, 0, 35, 3, 62, 29, 42, 180, 0, 41, 184, 0, 61, 163, 0, 16, 42, 27, 28, 29, 182, 0, 64]
abbrev dktX17_search_1 : List UInt8 := dkwX17_search_1 ++ dktX17_search_2
def dkwX17_search_0 : List UInt8 := [3, 60, 27, 42, 180, 0, 37, 184, 0, 61, 163, 0, 54, 3, 61, 28, 42, 180, 0, 40, 184, 0, 61]
abbrev dktX17_search_0 : List UInt8 := dkwX17_search_0 ++ dktX17_search_1
theorem dksX17_search_0 : cX17_search.data.toList.drop 0 = dktX17_search_0 := by decide +kernel
theorem dksX17_search_1 : cX17_search.data.toList.drop 23 = dktX17_search_1 := dk_seg dksX17_search_0 23 rfl rfl
theorem dksX17_search_2 : cX17_search.data.toList.drop 46 = dktX17_search_2 := dk_seg dksX17_search_1 23 rfl rfl
theorem dX17_search_0 : decode cX17_search 0 = .ok (.iconst 0, 1) := dk_3 (dk_at dksX17_search_0 0 rfl rfl)
theorem dX17_search_1 : decode cX17_search 1 = .ok (.istore_n 1, 1) := dk_60 (dk_at dksX17_search_0 1 rfl rfl)
theorem dX17_search_2 : decode cX17_search 2 = .ok (.iload_n 1, 1) := dk_27 (dk_at dksX17_search_0 2 rfl rfl)
theorem dX17_search_3 : decode cX17_search 3 = .ok (.aload_n 0, 1) := dk_42 (dk_at dksX17_search_0 3 rfl rfl)
theorem dX17_search_4 : decode cX17_search 4 = .ok (.getfield 37, 3) := dk_180 0 37 (dk_at dksX17_search_0 4 rfl rfl)
theorem dX17_search_7 : decode cX17_search 7 = .ok (.invokestatic 61, 3) := dk_184 0 61 (dk_at dksX17_search_0 7 rfl rfl)
theorem dX17_search_10 : decode cX17_search 10 = .ok (.if_icmp .gt 54, 3) := dk_163 0 54 (dk_at dksX17_search_0 10 rfl rfl)
theorem dX17_search_13 : decode cX17_search 13 = .ok (.iconst 0, 1) := dk_3 (dk_at dksX17_search_0 13 rfl rfl)
theorem dX17_search_14 : decode cX17_search 14 = .ok (.istore_n 2, 1) := dk_61 (dk_at dksX17_search_0 14 rfl rfl)
theorem dX17_search_15 : decode cX17_search 15 = .ok (.iload_n 2, 1) := dk_28 (dk_at dksX17_search_0 15 rfl rfl)
theorem dX17_search_16 : decode cX17_search 16 = .ok (.aload_n 0, 1) := dk_42 (dk_at dksX17_search_0 16 rfl rfl)
theorem dX17_search_17 : decode cX17_search 17 = .ok (.getfield 40, 3) := dk_180 0 40 (dk_at dksX17_search_0 17 rfl rfl)
theorem dX17_search_20 : decode cX17_search 20 = .ok (.invokestatic 61, 3) := dk_184 0 61 (dk_at dksX17_search_0 20 rfl rfl)
theorem dX17_search_23 : decode cX17_search 23 = .ok (.if_icmp .gt 35, 3) := dk_163 0 35 (dk_at dksX17_search_1 0 rfl rfl)
theorem dX17_search_26 : decode cX17_search 26 = .ok (.iconst 0, 1) := dk_3 (dk_at dksX17_search_1 3 rfl rfl)
theorem dX17_search_27 : decode cX17_search 27 = .ok (.istore_n 3, 1) := dk_62 (dk_at dksX17_search_1 4 rfl rfl)
theorem dX17_search_28 : decode cX17_search 28 = .ok (.iload_n 3, 1) := dk_29 (dk_at dksX17_search_1 5 rfl rfl)
theorem dX17_search_29 : decode cX17_search 29 = .ok (.aload_n 0, 1) := dk_42 (dk_at dksX17_search_1 6 rfl rfl)
theorem dX17_search_30 : decode cX17_search 30 = .ok (.getfield 41, 3) := dk_180 0 41 (dk_at dksX17_search_1 7 rfl rfl)
theorem dX17_search_33 : decode cX17_search 33 = .ok (.invokestatic 61, 3) := dk_184 0 61 (dk_at dksX17_search_1 10 rfl rfl)
theorem dX17_search_36 : decode cX17_search 36 = .ok (.if_icmp .gt 16, 3) := dk_163 0 16 (dk_at dksX17_search_1 13 rfl rfl)
theorem dX17_search_39 : decode cX17_search 39 = .ok (.aload_n 0, 1) := dk_42 (dk_at dksX17_search_1 16 rfl rfl)
theorem dX17_search_40 : decode cX17_search 40 = .ok (.iload_n 1, 1) := dk_27 (dk_at dksX17_search_1 17 rfl rfl)
theorem dX17_search_41 : decode cX17_search 41 = .ok (.iload_n 2, 1) := dk_28 (dk_at dksX17_search_1 18 rfl rfl)
theorem dX17_search_42 : decode cX17_search 42 = .ok (.iload_n 3, 1) := dk_29 (dk_at dksX17_search_1 19 rfl rfl)
theorem dX17_search_43 : decode cX17_search 43 = .ok (.invokevirtual 64, 3) := dk_182 0 64 (dk_at dksX17_search_1 20 rfl rfl)
theorem dX17_search_46 : decode cX17_search 46 = .ok (.iinc 3 1, 3) := dk_132 3 1 (dk_at dksX17_search_2 0 rfl rfl)
theorem dX17_search_49 : decode cX17_search 49 = .ok (.goto (-21), 3) := dk_167 255 235 (dk_at dksX17_search_2 3 rfl rfl)
theorem dX17_search_52 : decode cX17_search 52 = .ok (.iinc 2 1, 3) := dk_132 2 1 (dk_at dksX17_search_2 6 rfl rfl)
theorem dX17_search_55 : decode cX17_search 55 = .ok (.goto (-40), 3) := dk_167 255 216 (dk_at dksX17_search_2 9 rfl rfl)
theorem dX17_search_58 : decode cX17_search 58 = .ok (.iinc 1 1, 3) := dk_132 1 1 (dk_at dksX17_search_2 12 rfl rfl)
theorem dX17_search_61 : decode cX17_search 61 = .ok (.goto (-59), 3) := dk_167 255 197 (dk_at dksX17_search_2 15 rfl rfl)
theorem dX17_search_64 : decode cX17_search 64 = .ok (.return_, 1) := dk_177 (dk_at dksX17_search_2 18 rfl rfl)
abbrev cX17_size : ByteArray := prog_7_method_2_code
def yX17_size : MethodName := ⟨RX17, "size", "(I)I"⟩
theorem dX17_size_0 : decode cX17_size 0 = .ok (.iload_n 0, 1) := by decide +kernel
theorem dX17_size_1 : decode cX17_size 1 = .ok (.invokestatic 55, 3) := by decide +kernel
theorem dX17_size_4 : decode cX17_size 4 = .ok (.ireturn, 1) := by decide +kernel
abbrev cX17_searchRight : ByteArray := prog_7_method_4_code
def yX17_searchRight : MethodName := ⟨RX17, "searchRight", "(III)V"⟩
def dkwX17_searchRight_3 : List UInt8 := [132, 5, 1, 167, 255, 203, 132, 4, 1, 167, 255, 180, 177]
abbrev dktX17_searchRight_3 : List UInt8 := dkwX17_searchRight_3 ++ []
def dkwX17_searchRight_2 : List UInt8 := [100, 163, 0, 22, 42, 27, 28, 29, 21, 4, 21, 5, 21, 6, 182, 0, 68, 132, 6, 1, 167, 255, 226]
abbrev dktX17_searchRight_2 : List UInt8 := dkwX17_searchRight_2 ++ dktX17_searchRight_3
def dkwX17_searchRight_1 : List UInt8 := [180, 0, 40, 184, 0, 61, 28, 100, 163, 0, 45, 3, 54, 6, 21, 6, 42, 180, 0, 41, 184, 0, 61, 29]
abbrev dktX17_searchRight_1 : List UInt8 := dkwX17_searchRight_1 ++ dktX17_searchRight_2
def dkwX17_searchRight_0 : List UInt8 := [3, 54, 4, 21, 4, 42, 180, 0, 37, 184, 0, 61, 27, 100, 163, 0, 68, 3, 54, 5, 21, 5, 42]
abbrev dktX17_searchRight_0 : List UInt8 := dkwX17_searchRight_0 ++ dktX17_searchRight_1
theorem dksX17_searchRight_0 : cX17_searchRight.data.toList.drop 0 = dktX17_searchRight_0 := by decide +kernel
theorem dksX17_searchRight_1 : cX17_searchRight.data.toList.drop 23 = dktX17_searchRight_1 := dk_seg dksX17_searchRight_0 23 rfl rfl
theorem dksX17_searchRight_2 : cX17_searchRight.data.toList.drop 47 = dktX17_searchRight_2 := dk_seg dksX17_searchRight_1 24 rfl rfl
theorem dksX17_searchRight_3 : cX17_searchRight.data.toList.drop 70 = dktX17_searchRight_3 := dk_seg dksX17_searchRight_2 23 rfl rfl
theorem dX17_searchRight_0 : decode cX17_searchRight 0 = .ok (.iconst 0, 1) := dk_3 (dk_at dksX17_searchRight_0 0 rfl rfl)
theorem dX17_searchRight_1 : decode cX17_searchRight 1 = .ok (.istore 4, 2) := dk_54 4 (dk_at dksX17_searchRight_0 1 rfl rfl)
theorem dX17_searchRight_3 : decode cX17_searchRight 3 = .ok (.iload 4, 2) := dk_21 4 (dk_at dksX17_searchRight_0 3 rfl rfl)
theorem dX17_searchRight_5 : decode cX17_searchRight 5 = .ok (.aload_n 0, 1) := dk_42 (dk_at dksX17_searchRight_0 5 rfl rfl)
theorem dX17_searchRight_6 : decode cX17_searchRight 6 = .ok (.getfield 37, 3) := dk_180 0 37 (dk_at dksX17_searchRight_0 6 rfl rfl)
theorem dX17_searchRight_9 : decode cX17_searchRight 9 = .ok (.invokestatic 61, 3) := dk_184 0 61 (dk_at dksX17_searchRight_0 9 rfl rfl)
theorem dX17_searchRight_12 : decode cX17_searchRight 12 = .ok (.iload_n 1, 1) := dk_27 (dk_at dksX17_searchRight_0 12 rfl rfl)
theorem dX17_searchRight_13 : decode cX17_searchRight 13 = .ok (.isub, 1) := dk_100 (dk_at dksX17_searchRight_0 13 rfl rfl)
theorem dX17_searchRight_14 : decode cX17_searchRight 14 = .ok (.if_icmp .gt 68, 3) := dk_163 0 68 (dk_at dksX17_searchRight_0 14 rfl rfl)
theorem dX17_searchRight_17 : decode cX17_searchRight 17 = .ok (.iconst 0, 1) := dk_3 (dk_at dksX17_searchRight_0 17 rfl rfl)
theorem dX17_searchRight_18 : decode cX17_searchRight 18 = .ok (.istore 5, 2) := dk_54 5 (dk_at dksX17_searchRight_0 18 rfl rfl)
theorem dX17_searchRight_20 : decode cX17_searchRight 20 = .ok (.iload 5, 2) := dk_21 5 (dk_at dksX17_searchRight_0 20 rfl rfl)
theorem dX17_searchRight_22 : decode cX17_searchRight 22 = .ok (.aload_n 0, 1) := dk_42 (dk_at dksX17_searchRight_0 22 rfl rfl)
theorem dX17_searchRight_23 : decode cX17_searchRight 23 = .ok (.getfield 40, 3) := dk_180 0 40 (dk_at dksX17_searchRight_1 0 rfl rfl)
theorem dX17_searchRight_26 : decode cX17_searchRight 26 = .ok (.invokestatic 61, 3) := dk_184 0 61 (dk_at dksX17_searchRight_1 3 rfl rfl)
theorem dX17_searchRight_29 : decode cX17_searchRight 29 = .ok (.iload_n 2, 1) := dk_28 (dk_at dksX17_searchRight_1 6 rfl rfl)
theorem dX17_searchRight_30 : decode cX17_searchRight 30 = .ok (.isub, 1) := dk_100 (dk_at dksX17_searchRight_1 7 rfl rfl)
theorem dX17_searchRight_31 : decode cX17_searchRight 31 = .ok (.if_icmp .gt 45, 3) := dk_163 0 45 (dk_at dksX17_searchRight_1 8 rfl rfl)
theorem dX17_searchRight_34 : decode cX17_searchRight 34 = .ok (.iconst 0, 1) := dk_3 (dk_at dksX17_searchRight_1 11 rfl rfl)
theorem dX17_searchRight_35 : decode cX17_searchRight 35 = .ok (.istore 6, 2) := dk_54 6 (dk_at dksX17_searchRight_1 12 rfl rfl)
theorem dX17_searchRight_37 : decode cX17_searchRight 37 = .ok (.iload 6, 2) := dk_21 6 (dk_at dksX17_searchRight_1 14 rfl rfl)
theorem dX17_searchRight_39 : decode cX17_searchRight 39 = .ok (.aload_n 0, 1) := dk_42 (dk_at dksX17_searchRight_1 16 rfl rfl)
theorem dX17_searchRight_40 : decode cX17_searchRight 40 = .ok (.getfield 41, 3) := dk_180 0 41 (dk_at dksX17_searchRight_1 17 rfl rfl)
theorem dX17_searchRight_43 : decode cX17_searchRight 43 = .ok (.invokestatic 61, 3) := dk_184 0 61 (dk_at dksX17_searchRight_1 20 rfl rfl)
theorem dX17_searchRight_46 : decode cX17_searchRight 46 = .ok (.iload_n 3, 1) := dk_29 (dk_at dksX17_searchRight_1 23 rfl rfl)
theorem dX17_searchRight_47 : decode cX17_searchRight 47 = .ok (.isub, 1) := dk_100 (dk_at dksX17_searchRight_2 0 rfl rfl)
theorem dX17_searchRight_48 : decode cX17_searchRight 48 = .ok (.if_icmp .gt 22, 3) := dk_163 0 22 (dk_at dksX17_searchRight_2 1 rfl rfl)
theorem dX17_searchRight_51 : decode cX17_searchRight 51 = .ok (.aload_n 0, 1) := dk_42 (dk_at dksX17_searchRight_2 4 rfl rfl)
theorem dX17_searchRight_52 : decode cX17_searchRight 52 = .ok (.iload_n 1, 1) := dk_27 (dk_at dksX17_searchRight_2 5 rfl rfl)
theorem dX17_searchRight_53 : decode cX17_searchRight 53 = .ok (.iload_n 2, 1) := dk_28 (dk_at dksX17_searchRight_2 6 rfl rfl)
theorem dX17_searchRight_54 : decode cX17_searchRight 54 = .ok (.iload_n 3, 1) := dk_29 (dk_at dksX17_searchRight_2 7 rfl rfl)
theorem dX17_searchRight_55 : decode cX17_searchRight 55 = .ok (.iload 4, 2) := dk_21 4 (dk_at dksX17_searchRight_2 8 rfl rfl)
theorem dX17_searchRight_57 : decode cX17_searchRight 57 = .ok (.iload 5, 2) := dk_21 5 (dk_at dksX17_searchRight_2 10 rfl rfl)
theorem dX17_searchRight_59 : decode cX17_searchRight 59 = .ok (.iload 6, 2) := dk_21 6 (dk_at dksX17_searchRight_2 12 rfl rfl)
theorem dX17_searchRight_61 : decode cX17_searchRight 61 = .ok (.invokevirtual 68, 3) := dk_182 0 68 (dk_at dksX17_searchRight_2 14 rfl rfl)
theorem dX17_searchRight_64 : decode cX17_searchRight 64 = .ok (.iinc 6 1, 3) := dk_132 6 1 (dk_at dksX17_searchRight_2 17 rfl rfl)
theorem dX17_searchRight_67 : decode cX17_searchRight 67 = .ok (.goto (-30), 3) := dk_167 255 226 (dk_at dksX17_searchRight_2 20 rfl rfl)
theorem dX17_searchRight_70 : decode cX17_searchRight 70 = .ok (.iinc 5 1, 3) := dk_132 5 1 (dk_at dksX17_searchRight_3 0 rfl rfl)
theorem dX17_searchRight_73 : decode cX17_searchRight 73 = .ok (.goto (-53), 3) := dk_167 255 203 (dk_at dksX17_searchRight_3 3 rfl rfl)
theorem dX17_searchRight_76 : decode cX17_searchRight 76 = .ok (.iinc 4 1, 3) := dk_132 4 1 (dk_at dksX17_searchRight_3 6 rfl rfl)
theorem dX17_searchRight_79 : decode cX17_searchRight 79 = .ok (.goto (-76), 3) := dk_167 255 180 (dk_at dksX17_searchRight_3 9 rfl rfl)
theorem dX17_searchRight_82 : decode cX17_searchRight 82 = .ok (.return_, 1) := dk_177 (dk_at dksX17_searchRight_3 12 rfl rfl)
abbrev cX17_tries : ByteArray := prog_7_method_5_code
def yX17_tries : MethodName := ⟨RX17, "tries", "(IIIIII)V"⟩
def dkwX17_tries_10 : List UInt8 := [21, 9, 182, 0, 98, 154, 0, 4, 177, 42, 21, 8, 181, 0, 15, 42, 21, 9, 181, 0, 19, 177]
abbrev dktX17_tries_10 : List UInt8 := dkwX17_tries_10 ++ []
def dkwX17_tries_9 : List UInt8 := [21, 7, 184, 0, 95, 184, 0, 91, 128, 54, 9, 42, 180, 0, 15, 16, 254, 159, 0, 15, 42, 21, 8]
abbrev dktX17_tries_9 : List UInt8 := dkwX17_tries_9 ++ dktX17_tries_10
def dkwX17_tries_8 : List UInt8 := [180, 0, 41, 21, 8, 2, 130, 126, 21, 6, 184, 0, 91, 128, 42, 180, 0, 42, 21, 8, 2, 130, 126, 3]
abbrev dktX17_tries_8 : List UInt8 := dkwX17_tries_8 ++ dktX17_tries_9
def dkwX17_tries_7 : List UInt8 := [2, 130, 126, 21, 4, 184, 0, 91, 42, 180, 0, 40, 21, 8, 2, 130, 126, 21, 5, 184, 0, 91, 128, 42]
abbrev dktX17_tries_7 : List UInt8 := dkwX17_tries_7 ++ dktX17_tries_8
def dkwX17_tries_6 : List UInt8 := [128, 42, 180, 0, 42, 3, 21, 7, 116, 184, 0, 95, 184, 0, 91, 128, 54, 8, 42, 180, 0, 37, 21, 8]
abbrev dktX17_tries_6 : List UInt8 := dkwX17_tries_6 ++ dktX17_tries_7
def dkwX17_tries_5 : List UInt8 := [180, 0, 37, 27, 184, 0, 91, 42, 180, 0, 40, 28, 184, 0, 91, 128, 42, 180, 0, 41, 29, 184, 0, 91]
abbrev dktX17_tries_5 : List UInt8 := dkwX17_tries_5 ++ dktX17_tries_6
def dkwX17_tries_4 : List UInt8 := [3, 27, 28, 29, 21, 4, 21, 5, 21, 6, 182, 0, 85, 96, 42, 180, 0, 49, 159, 0, 4, 177, 42]
abbrev dktX17_tries_4 : List UInt8 := dkwX17_tries_4 ++ dktX17_tries_5
def dkwX17_tries_3 : List UInt8 := [184, 0, 61, 42, 180, 0, 41, 184, 0, 61, 42, 180, 0, 25, 180, 0, 81, 153, 0, 7, 4, 167, 0, 4]
abbrev dktX17_tries_3 : List UInt8 := dkwX17_tries_3 ++ dktX17_tries_4
def dkwX17_tries_2 : List UInt8 := [177, 4, 42, 180, 0, 3, 42, 180, 0, 22, 182, 0, 77, 42, 180, 0, 37, 184, 0, 61, 42, 180, 0, 40]
abbrev dktX17_tries_2 : List UInt8 := dkwX17_tries_2 ++ dktX17_tries_3
def dkwX17_tries_1 : List UInt8 := [21, 5, 96, 21, 6, 96, 153, 0, 18, 21, 7, 184, 0, 72, 42, 180, 0, 42, 184, 0, 61, 164, 0, 4]
abbrev dktX17_tries_1 : List UInt8 := dkwX17_tries_1 ++ dktX17_tries_2
def dkwX17_tries_0 : List UInt8 := [27, 28, 96, 29, 96, 21, 4, 100, 21, 5, 100, 21, 6, 100, 54, 7, 27, 28, 96, 29, 96, 21, 4, 96]
abbrev dktX17_tries_0 : List UInt8 := dkwX17_tries_0 ++ dktX17_tries_1
theorem dksX17_tries_0 : cX17_tries.data.toList.drop 0 = dktX17_tries_0 := by decide +kernel
theorem dksX17_tries_1 : cX17_tries.data.toList.drop 24 = dktX17_tries_1 := dk_seg dksX17_tries_0 24 rfl rfl
theorem dksX17_tries_2 : cX17_tries.data.toList.drop 48 = dktX17_tries_2 := dk_seg dksX17_tries_1 24 rfl rfl
theorem dksX17_tries_3 : cX17_tries.data.toList.drop 72 = dktX17_tries_3 := dk_seg dksX17_tries_2 24 rfl rfl
theorem dksX17_tries_4 : cX17_tries.data.toList.drop 96 = dktX17_tries_4 := dk_seg dksX17_tries_3 24 rfl rfl
theorem dksX17_tries_5 : cX17_tries.data.toList.drop 119 = dktX17_tries_5 := dk_seg dksX17_tries_4 23 rfl rfl
theorem dksX17_tries_6 : cX17_tries.data.toList.drop 143 = dktX17_tries_6 := dk_seg dksX17_tries_5 24 rfl rfl
theorem dksX17_tries_7 : cX17_tries.data.toList.drop 167 = dktX17_tries_7 := dk_seg dksX17_tries_6 24 rfl rfl
theorem dksX17_tries_8 : cX17_tries.data.toList.drop 191 = dktX17_tries_8 := dk_seg dksX17_tries_7 24 rfl rfl
theorem dksX17_tries_9 : cX17_tries.data.toList.drop 215 = dktX17_tries_9 := dk_seg dksX17_tries_8 24 rfl rfl
theorem dksX17_tries_10 : cX17_tries.data.toList.drop 238 = dktX17_tries_10 := dk_seg dksX17_tries_9 23 rfl rfl
theorem dX17_tries_0 : decode cX17_tries 0 = .ok (.iload_n 1, 1) := dk_27 (dk_at dksX17_tries_0 0 rfl rfl)
theorem dX17_tries_1 : decode cX17_tries 1 = .ok (.iload_n 2, 1) := dk_28 (dk_at dksX17_tries_0 1 rfl rfl)
theorem dX17_tries_2 : decode cX17_tries 2 = .ok (.iadd, 1) := dk_96 (dk_at dksX17_tries_0 2 rfl rfl)
theorem dX17_tries_3 : decode cX17_tries 3 = .ok (.iload_n 3, 1) := dk_29 (dk_at dksX17_tries_0 3 rfl rfl)
theorem dX17_tries_4 : decode cX17_tries 4 = .ok (.iadd, 1) := dk_96 (dk_at dksX17_tries_0 4 rfl rfl)
theorem dX17_tries_5 : decode cX17_tries 5 = .ok (.iload 4, 2) := dk_21 4 (dk_at dksX17_tries_0 5 rfl rfl)
theorem dX17_tries_7 : decode cX17_tries 7 = .ok (.isub, 1) := dk_100 (dk_at dksX17_tries_0 7 rfl rfl)
theorem dX17_tries_8 : decode cX17_tries 8 = .ok (.iload 5, 2) := dk_21 5 (dk_at dksX17_tries_0 8 rfl rfl)
theorem dX17_tries_10 : decode cX17_tries 10 = .ok (.isub, 1) := dk_100 (dk_at dksX17_tries_0 10 rfl rfl)
theorem dX17_tries_11 : decode cX17_tries 11 = .ok (.iload 6, 2) := dk_21 6 (dk_at dksX17_tries_0 11 rfl rfl)
theorem dX17_tries_13 : decode cX17_tries 13 = .ok (.isub, 1) := dk_100 (dk_at dksX17_tries_0 13 rfl rfl)
theorem dX17_tries_14 : decode cX17_tries 14 = .ok (.istore 7, 2) := dk_54 7 (dk_at dksX17_tries_0 14 rfl rfl)
theorem dX17_tries_16 : decode cX17_tries 16 = .ok (.iload_n 1, 1) := dk_27 (dk_at dksX17_tries_0 16 rfl rfl)
theorem dX17_tries_17 : decode cX17_tries 17 = .ok (.iload_n 2, 1) := dk_28 (dk_at dksX17_tries_0 17 rfl rfl)
theorem dX17_tries_18 : decode cX17_tries 18 = .ok (.iadd, 1) := dk_96 (dk_at dksX17_tries_0 18 rfl rfl)
theorem dX17_tries_19 : decode cX17_tries 19 = .ok (.iload_n 3, 1) := dk_29 (dk_at dksX17_tries_0 19 rfl rfl)
theorem dX17_tries_20 : decode cX17_tries 20 = .ok (.iadd, 1) := dk_96 (dk_at dksX17_tries_0 20 rfl rfl)
theorem dX17_tries_21 : decode cX17_tries 21 = .ok (.iload 4, 2) := dk_21 4 (dk_at dksX17_tries_0 21 rfl rfl)
theorem dX17_tries_23 : decode cX17_tries 23 = .ok (.iadd, 1) := dk_96 (dk_at dksX17_tries_0 23 rfl rfl)
theorem dX17_tries_24 : decode cX17_tries 24 = .ok (.iload 5, 2) := dk_21 5 (dk_at dksX17_tries_1 0 rfl rfl)
theorem dX17_tries_26 : decode cX17_tries 26 = .ok (.iadd, 1) := dk_96 (dk_at dksX17_tries_1 2 rfl rfl)
theorem dX17_tries_27 : decode cX17_tries 27 = .ok (.iload 6, 2) := dk_21 6 (dk_at dksX17_tries_1 3 rfl rfl)
theorem dX17_tries_29 : decode cX17_tries 29 = .ok (.iadd, 1) := dk_96 (dk_at dksX17_tries_1 5 rfl rfl)
theorem dX17_tries_30 : decode cX17_tries 30 = .ok (.ifCond .eq 18, 3) := dk_153 0 18 (dk_at dksX17_tries_1 6 rfl rfl)
theorem dX17_tries_33 : decode cX17_tries 33 = .ok (.iload 7, 2) := dk_21 7 (dk_at dksX17_tries_1 9 rfl rfl)
theorem dX17_tries_35 : decode cX17_tries 35 = .ok (.invokestatic 72, 3) := dk_184 0 72 (dk_at dksX17_tries_1 11 rfl rfl)
theorem dX17_tries_38 : decode cX17_tries 38 = .ok (.aload_n 0, 1) := dk_42 (dk_at dksX17_tries_1 14 rfl rfl)
theorem dX17_tries_39 : decode cX17_tries 39 = .ok (.getfield 42, 3) := dk_180 0 42 (dk_at dksX17_tries_1 15 rfl rfl)
theorem dX17_tries_42 : decode cX17_tries 42 = .ok (.invokestatic 61, 3) := dk_184 0 61 (dk_at dksX17_tries_1 18 rfl rfl)
theorem dX17_tries_45 : decode cX17_tries 45 = .ok (.if_icmp .le 4, 3) := dk_164 0 4 (dk_at dksX17_tries_1 21 rfl rfl)
theorem dX17_tries_48 : decode cX17_tries 48 = .ok (.return_, 1) := dk_177 (dk_at dksX17_tries_2 0 rfl rfl)
theorem dX17_tries_49 : decode cX17_tries 49 = .ok (.iconst 1, 1) := dk_4 (dk_at dksX17_tries_2 1 rfl rfl)
theorem dX17_tries_50 : decode cX17_tries 50 = .ok (.aload_n 0, 1) := dk_42 (dk_at dksX17_tries_2 2 rfl rfl)
theorem dX17_tries_51 : decode cX17_tries 51 = .ok (.getfield 3, 3) := dk_180 0 3 (dk_at dksX17_tries_2 3 rfl rfl)
theorem dX17_tries_54 : decode cX17_tries 54 = .ok (.aload_n 0, 1) := dk_42 (dk_at dksX17_tries_2 6 rfl rfl)
theorem dX17_tries_55 : decode cX17_tries 55 = .ok (.getfield 22, 3) := dk_180 0 22 (dk_at dksX17_tries_2 7 rfl rfl)
theorem dX17_tries_58 : decode cX17_tries 58 = .ok (.invokevirtual 77, 3) := dk_182 0 77 (dk_at dksX17_tries_2 10 rfl rfl)
theorem dX17_tries_61 : decode cX17_tries 61 = .ok (.aload_n 0, 1) := dk_42 (dk_at dksX17_tries_2 13 rfl rfl)
theorem dX17_tries_62 : decode cX17_tries 62 = .ok (.getfield 37, 3) := dk_180 0 37 (dk_at dksX17_tries_2 14 rfl rfl)
theorem dX17_tries_65 : decode cX17_tries 65 = .ok (.invokestatic 61, 3) := dk_184 0 61 (dk_at dksX17_tries_2 17 rfl rfl)
theorem dX17_tries_68 : decode cX17_tries 68 = .ok (.aload_n 0, 1) := dk_42 (dk_at dksX17_tries_2 20 rfl rfl)
theorem dX17_tries_69 : decode cX17_tries 69 = .ok (.getfield 40, 3) := dk_180 0 40 (dk_at dksX17_tries_2 21 rfl rfl)
theorem dX17_tries_72 : decode cX17_tries 72 = .ok (.invokestatic 61, 3) := dk_184 0 61 (dk_at dksX17_tries_3 0 rfl rfl)
theorem dX17_tries_75 : decode cX17_tries 75 = .ok (.aload_n 0, 1) := dk_42 (dk_at dksX17_tries_3 3 rfl rfl)
theorem dX17_tries_76 : decode cX17_tries 76 = .ok (.getfield 41, 3) := dk_180 0 41 (dk_at dksX17_tries_3 4 rfl rfl)
theorem dX17_tries_79 : decode cX17_tries 79 = .ok (.invokestatic 61, 3) := dk_184 0 61 (dk_at dksX17_tries_3 7 rfl rfl)
theorem dX17_tries_82 : decode cX17_tries 82 = .ok (.aload_n 0, 1) := dk_42 (dk_at dksX17_tries_3 10 rfl rfl)
theorem dX17_tries_83 : decode cX17_tries 83 = .ok (.getfield 25, 3) := dk_180 0 25 (dk_at dksX17_tries_3 11 rfl rfl)
theorem dX17_tries_86 : decode cX17_tries 86 = .ok (.getfield 81, 3) := dk_180 0 81 (dk_at dksX17_tries_3 14 rfl rfl)
theorem dX17_tries_89 : decode cX17_tries 89 = .ok (.ifCond .eq 7, 3) := dk_153 0 7 (dk_at dksX17_tries_3 17 rfl rfl)
theorem dX17_tries_92 : decode cX17_tries 92 = .ok (.iconst 1, 1) := dk_4 (dk_at dksX17_tries_3 20 rfl rfl)
theorem dX17_tries_93 : decode cX17_tries 93 = .ok (.goto 4, 3) := dk_167 0 4 (dk_at dksX17_tries_3 21 rfl rfl)
theorem dX17_tries_96 : decode cX17_tries 96 = .ok (.iconst 0, 1) := dk_3 (dk_at dksX17_tries_4 0 rfl rfl)
theorem dX17_tries_97 : decode cX17_tries 97 = .ok (.iload_n 1, 1) := dk_27 (dk_at dksX17_tries_4 1 rfl rfl)
theorem dX17_tries_98 : decode cX17_tries 98 = .ok (.iload_n 2, 1) := dk_28 (dk_at dksX17_tries_4 2 rfl rfl)
theorem dX17_tries_99 : decode cX17_tries 99 = .ok (.iload_n 3, 1) := dk_29 (dk_at dksX17_tries_4 3 rfl rfl)
theorem dX17_tries_100 : decode cX17_tries 100 = .ok (.iload 4, 2) := dk_21 4 (dk_at dksX17_tries_4 4 rfl rfl)
theorem dX17_tries_102 : decode cX17_tries 102 = .ok (.iload 5, 2) := dk_21 5 (dk_at dksX17_tries_4 6 rfl rfl)
theorem dX17_tries_104 : decode cX17_tries 104 = .ok (.iload 6, 2) := dk_21 6 (dk_at dksX17_tries_4 8 rfl rfl)
theorem dX17_tries_106 : decode cX17_tries 106 = .ok (.invokevirtual 85, 3) := dk_182 0 85 (dk_at dksX17_tries_4 10 rfl rfl)
theorem dX17_tries_109 : decode cX17_tries 109 = .ok (.iadd, 1) := dk_96 (dk_at dksX17_tries_4 13 rfl rfl)
theorem dX17_tries_110 : decode cX17_tries 110 = .ok (.aload_n 0, 1) := dk_42 (dk_at dksX17_tries_4 14 rfl rfl)
theorem dX17_tries_111 : decode cX17_tries 111 = .ok (.getfield 49, 3) := dk_180 0 49 (dk_at dksX17_tries_4 15 rfl rfl)
theorem dX17_tries_114 : decode cX17_tries 114 = .ok (.if_icmp .eq 4, 3) := dk_159 0 4 (dk_at dksX17_tries_4 18 rfl rfl)
theorem dX17_tries_117 : decode cX17_tries 117 = .ok (.return_, 1) := dk_177 (dk_at dksX17_tries_4 21 rfl rfl)
theorem dX17_tries_118 : decode cX17_tries 118 = .ok (.aload_n 0, 1) := dk_42 (dk_at dksX17_tries_4 22 rfl rfl)
theorem dX17_tries_119 : decode cX17_tries 119 = .ok (.getfield 37, 3) := dk_180 0 37 (dk_at dksX17_tries_5 0 rfl rfl)
theorem dX17_tries_122 : decode cX17_tries 122 = .ok (.iload_n 1, 1) := dk_27 (dk_at dksX17_tries_5 3 rfl rfl)
theorem dX17_tries_123 : decode cX17_tries 123 = .ok (.invokestatic 91, 3) := dk_184 0 91 (dk_at dksX17_tries_5 4 rfl rfl)
theorem dX17_tries_126 : decode cX17_tries 126 = .ok (.aload_n 0, 1) := dk_42 (dk_at dksX17_tries_5 7 rfl rfl)
theorem dX17_tries_127 : decode cX17_tries 127 = .ok (.getfield 40, 3) := dk_180 0 40 (dk_at dksX17_tries_5 8 rfl rfl)
theorem dX17_tries_130 : decode cX17_tries 130 = .ok (.iload_n 2, 1) := dk_28 (dk_at dksX17_tries_5 11 rfl rfl)
theorem dX17_tries_131 : decode cX17_tries 131 = .ok (.invokestatic 91, 3) := dk_184 0 91 (dk_at dksX17_tries_5 12 rfl rfl)
theorem dX17_tries_134 : decode cX17_tries 134 = .ok (.ior, 1) := dk_128 (dk_at dksX17_tries_5 15 rfl rfl)
theorem dX17_tries_135 : decode cX17_tries 135 = .ok (.aload_n 0, 1) := dk_42 (dk_at dksX17_tries_5 16 rfl rfl)
theorem dX17_tries_136 : decode cX17_tries 136 = .ok (.getfield 41, 3) := dk_180 0 41 (dk_at dksX17_tries_5 17 rfl rfl)
theorem dX17_tries_139 : decode cX17_tries 139 = .ok (.iload_n 3, 1) := dk_29 (dk_at dksX17_tries_5 20 rfl rfl)
theorem dX17_tries_140 : decode cX17_tries 140 = .ok (.invokestatic 91, 3) := dk_184 0 91 (dk_at dksX17_tries_5 21 rfl rfl)
theorem dX17_tries_143 : decode cX17_tries 143 = .ok (.ior, 1) := dk_128 (dk_at dksX17_tries_6 0 rfl rfl)
theorem dX17_tries_144 : decode cX17_tries 144 = .ok (.aload_n 0, 1) := dk_42 (dk_at dksX17_tries_6 1 rfl rfl)
theorem dX17_tries_145 : decode cX17_tries 145 = .ok (.getfield 42, 3) := dk_180 0 42 (dk_at dksX17_tries_6 2 rfl rfl)
theorem dX17_tries_148 : decode cX17_tries 148 = .ok (.iconst 0, 1) := dk_3 (dk_at dksX17_tries_6 5 rfl rfl)
theorem dX17_tries_149 : decode cX17_tries 149 = .ok (.iload 7, 2) := dk_21 7 (dk_at dksX17_tries_6 6 rfl rfl)
theorem dX17_tries_151 : decode cX17_tries 151 = .ok (.ineg, 1) := dk_116 (dk_at dksX17_tries_6 8 rfl rfl)
theorem dX17_tries_152 : decode cX17_tries 152 = .ok (.invokestatic 95, 3) := dk_184 0 95 (dk_at dksX17_tries_6 9 rfl rfl)
theorem dX17_tries_155 : decode cX17_tries 155 = .ok (.invokestatic 91, 3) := dk_184 0 91 (dk_at dksX17_tries_6 12 rfl rfl)
theorem dX17_tries_158 : decode cX17_tries 158 = .ok (.ior, 1) := dk_128 (dk_at dksX17_tries_6 15 rfl rfl)
theorem dX17_tries_159 : decode cX17_tries 159 = .ok (.istore 8, 2) := dk_54 8 (dk_at dksX17_tries_6 16 rfl rfl)
theorem dX17_tries_161 : decode cX17_tries 161 = .ok (.aload_n 0, 1) := dk_42 (dk_at dksX17_tries_6 18 rfl rfl)
theorem dX17_tries_162 : decode cX17_tries 162 = .ok (.getfield 37, 3) := dk_180 0 37 (dk_at dksX17_tries_6 19 rfl rfl)
theorem dX17_tries_165 : decode cX17_tries 165 = .ok (.iload 8, 2) := dk_21 8 (dk_at dksX17_tries_6 22 rfl rfl)
theorem dX17_tries_167 : decode cX17_tries 167 = .ok (.iconst (-1), 1) := dk_2 (dk_at dksX17_tries_7 0 rfl rfl)
theorem dX17_tries_168 : decode cX17_tries 168 = .ok (.ixor, 1) := dk_130 (dk_at dksX17_tries_7 1 rfl rfl)
theorem dX17_tries_169 : decode cX17_tries 169 = .ok (.iand, 1) := dk_126 (dk_at dksX17_tries_7 2 rfl rfl)
theorem dX17_tries_170 : decode cX17_tries 170 = .ok (.iload 4, 2) := dk_21 4 (dk_at dksX17_tries_7 3 rfl rfl)
theorem dX17_tries_172 : decode cX17_tries 172 = .ok (.invokestatic 91, 3) := dk_184 0 91 (dk_at dksX17_tries_7 5 rfl rfl)
theorem dX17_tries_175 : decode cX17_tries 175 = .ok (.aload_n 0, 1) := dk_42 (dk_at dksX17_tries_7 8 rfl rfl)
theorem dX17_tries_176 : decode cX17_tries 176 = .ok (.getfield 40, 3) := dk_180 0 40 (dk_at dksX17_tries_7 9 rfl rfl)
theorem dX17_tries_179 : decode cX17_tries 179 = .ok (.iload 8, 2) := dk_21 8 (dk_at dksX17_tries_7 12 rfl rfl)
theorem dX17_tries_181 : decode cX17_tries 181 = .ok (.iconst (-1), 1) := dk_2 (dk_at dksX17_tries_7 14 rfl rfl)
theorem dX17_tries_182 : decode cX17_tries 182 = .ok (.ixor, 1) := dk_130 (dk_at dksX17_tries_7 15 rfl rfl)
theorem dX17_tries_183 : decode cX17_tries 183 = .ok (.iand, 1) := dk_126 (dk_at dksX17_tries_7 16 rfl rfl)
theorem dX17_tries_184 : decode cX17_tries 184 = .ok (.iload 5, 2) := dk_21 5 (dk_at dksX17_tries_7 17 rfl rfl)
theorem dX17_tries_186 : decode cX17_tries 186 = .ok (.invokestatic 91, 3) := dk_184 0 91 (dk_at dksX17_tries_7 19 rfl rfl)
theorem dX17_tries_189 : decode cX17_tries 189 = .ok (.ior, 1) := dk_128 (dk_at dksX17_tries_7 22 rfl rfl)
theorem dX17_tries_190 : decode cX17_tries 190 = .ok (.aload_n 0, 1) := dk_42 (dk_at dksX17_tries_7 23 rfl rfl)
theorem dX17_tries_191 : decode cX17_tries 191 = .ok (.getfield 41, 3) := dk_180 0 41 (dk_at dksX17_tries_8 0 rfl rfl)
theorem dX17_tries_194 : decode cX17_tries 194 = .ok (.iload 8, 2) := dk_21 8 (dk_at dksX17_tries_8 3 rfl rfl)
theorem dX17_tries_196 : decode cX17_tries 196 = .ok (.iconst (-1), 1) := dk_2 (dk_at dksX17_tries_8 5 rfl rfl)
theorem dX17_tries_197 : decode cX17_tries 197 = .ok (.ixor, 1) := dk_130 (dk_at dksX17_tries_8 6 rfl rfl)
theorem dX17_tries_198 : decode cX17_tries 198 = .ok (.iand, 1) := dk_126 (dk_at dksX17_tries_8 7 rfl rfl)
theorem dX17_tries_199 : decode cX17_tries 199 = .ok (.iload 6, 2) := dk_21 6 (dk_at dksX17_tries_8 8 rfl rfl)
theorem dX17_tries_201 : decode cX17_tries 201 = .ok (.invokestatic 91, 3) := dk_184 0 91 (dk_at dksX17_tries_8 10 rfl rfl)
theorem dX17_tries_204 : decode cX17_tries 204 = .ok (.ior, 1) := dk_128 (dk_at dksX17_tries_8 13 rfl rfl)
theorem dX17_tries_205 : decode cX17_tries 205 = .ok (.aload_n 0, 1) := dk_42 (dk_at dksX17_tries_8 14 rfl rfl)
theorem dX17_tries_206 : decode cX17_tries 206 = .ok (.getfield 42, 3) := dk_180 0 42 (dk_at dksX17_tries_8 15 rfl rfl)
theorem dX17_tries_209 : decode cX17_tries 209 = .ok (.iload 8, 2) := dk_21 8 (dk_at dksX17_tries_8 18 rfl rfl)
theorem dX17_tries_211 : decode cX17_tries 211 = .ok (.iconst (-1), 1) := dk_2 (dk_at dksX17_tries_8 20 rfl rfl)
theorem dX17_tries_212 : decode cX17_tries 212 = .ok (.ixor, 1) := dk_130 (dk_at dksX17_tries_8 21 rfl rfl)
theorem dX17_tries_213 : decode cX17_tries 213 = .ok (.iand, 1) := dk_126 (dk_at dksX17_tries_8 22 rfl rfl)
theorem dX17_tries_214 : decode cX17_tries 214 = .ok (.iconst 0, 1) := dk_3 (dk_at dksX17_tries_8 23 rfl rfl)
theorem dX17_tries_215 : decode cX17_tries 215 = .ok (.iload 7, 2) := dk_21 7 (dk_at dksX17_tries_9 0 rfl rfl)
theorem dX17_tries_217 : decode cX17_tries 217 = .ok (.invokestatic 95, 3) := dk_184 0 95 (dk_at dksX17_tries_9 2 rfl rfl)
theorem dX17_tries_220 : decode cX17_tries 220 = .ok (.invokestatic 91, 3) := dk_184 0 91 (dk_at dksX17_tries_9 5 rfl rfl)
theorem dX17_tries_223 : decode cX17_tries 223 = .ok (.ior, 1) := dk_128 (dk_at dksX17_tries_9 8 rfl rfl)
theorem dX17_tries_224 : decode cX17_tries 224 = .ok (.istore 9, 2) := dk_54 9 (dk_at dksX17_tries_9 9 rfl rfl)
theorem dX17_tries_226 : decode cX17_tries 226 = .ok (.aload_n 0, 1) := dk_42 (dk_at dksX17_tries_9 11 rfl rfl)
theorem dX17_tries_227 : decode cX17_tries 227 = .ok (.getfield 15, 3) := dk_180 0 15 (dk_at dksX17_tries_9 12 rfl rfl)
theorem dX17_tries_230 : decode cX17_tries 230 = .ok (.bipush (-2), 2) := dk_16 254 (dk_at dksX17_tries_9 15 rfl rfl)
theorem dX17_tries_232 : decode cX17_tries 232 = .ok (.if_icmp .eq 15, 3) := dk_159 0 15 (dk_at dksX17_tries_9 17 rfl rfl)
theorem dX17_tries_235 : decode cX17_tries 235 = .ok (.aload_n 0, 1) := dk_42 (dk_at dksX17_tries_9 20 rfl rfl)
theorem dX17_tries_236 : decode cX17_tries 236 = .ok (.iload 8, 2) := dk_21 8 (dk_at dksX17_tries_9 21 rfl rfl)
theorem dX17_tries_238 : decode cX17_tries 238 = .ok (.iload 9, 2) := dk_21 9 (dk_at dksX17_tries_10 0 rfl rfl)
theorem dX17_tries_240 : decode cX17_tries 240 = .ok (.invokevirtual 98, 3) := dk_182 0 98 (dk_at dksX17_tries_10 2 rfl rfl)
theorem dX17_tries_243 : decode cX17_tries 243 = .ok (.ifCond .ne 4, 3) := dk_154 0 4 (dk_at dksX17_tries_10 5 rfl rfl)
theorem dX17_tries_246 : decode cX17_tries 246 = .ok (.return_, 1) := dk_177 (dk_at dksX17_tries_10 8 rfl rfl)
theorem dX17_tries_247 : decode cX17_tries 247 = .ok (.aload_n 0, 1) := dk_42 (dk_at dksX17_tries_10 9 rfl rfl)
theorem dX17_tries_248 : decode cX17_tries 248 = .ok (.iload 8, 2) := dk_21 8 (dk_at dksX17_tries_10 10 rfl rfl)
theorem dX17_tries_250 : decode cX17_tries 250 = .ok (.putfield 15, 3) := dk_181 0 15 (dk_at dksX17_tries_10 12 rfl rfl)
theorem dX17_tries_253 : decode cX17_tries 253 = .ok (.aload_n 0, 1) := dk_42 (dk_at dksX17_tries_10 15 rfl rfl)
theorem dX17_tries_254 : decode cX17_tries 254 = .ok (.iload 9, 2) := dk_21 9 (dk_at dksX17_tries_10 16 rfl rfl)
theorem dX17_tries_256 : decode cX17_tries 256 = .ok (.putfield 19, 3) := dk_181 0 19 (dk_at dksX17_tries_10 18 rfl rfl)
theorem dX17_tries_259 : decode cX17_tries 259 = .ok (.return_, 1) := dk_177 (dk_at dksX17_tries_10 21 rfl rfl)
abbrev cX17_isBefore : ByteArray := prog_7_method_6_code
def yX17_isBefore : MethodName := ⟨RX17, "isBefore", "(II)Z"⟩
def dkwX17_isBefore_2 : List UInt8 := [180, 0, 15, 160, 0, 15, 28, 42, 180, 0, 19, 162, 0, 7, 4, 167, 0, 4, 3, 172]
abbrev dktX17_isBefore_2 : List UInt8 := dkwX17_isBefore_2 ++ []
def dkwX17_isBefore_1 : List UInt8 := [184, 0, 61, 162, 0, 7, 4, 167, 0, 4, 3, 172, 27, 42, 180, 0, 15, 161, 0, 19, 27, 42]
abbrev dktX17_isBefore_1 : List UInt8 := dkwX17_isBefore_1 ++ dktX17_isBefore_2
def dkwX17_isBefore_0 : List UInt8 := [27, 184, 0, 61, 42, 180, 0, 15, 184, 0, 61, 159, 0, 23, 27, 184, 0, 61, 42, 180, 0, 15]
abbrev dktX17_isBefore_0 : List UInt8 := dkwX17_isBefore_0 ++ dktX17_isBefore_1
theorem dksX17_isBefore_0 : cX17_isBefore.data.toList.drop 0 = dktX17_isBefore_0 := by decide +kernel
theorem dksX17_isBefore_1 : cX17_isBefore.data.toList.drop 22 = dktX17_isBefore_1 := dk_seg dksX17_isBefore_0 22 rfl rfl
theorem dksX17_isBefore_2 : cX17_isBefore.data.toList.drop 44 = dktX17_isBefore_2 := dk_seg dksX17_isBefore_1 22 rfl rfl
theorem dX17_isBefore_0 : decode cX17_isBefore 0 = .ok (.iload_n 1, 1) := dk_27 (dk_at dksX17_isBefore_0 0 rfl rfl)
theorem dX17_isBefore_1 : decode cX17_isBefore 1 = .ok (.invokestatic 61, 3) := dk_184 0 61 (dk_at dksX17_isBefore_0 1 rfl rfl)
theorem dX17_isBefore_4 : decode cX17_isBefore 4 = .ok (.aload_n 0, 1) := dk_42 (dk_at dksX17_isBefore_0 4 rfl rfl)
theorem dX17_isBefore_5 : decode cX17_isBefore 5 = .ok (.getfield 15, 3) := dk_180 0 15 (dk_at dksX17_isBefore_0 5 rfl rfl)
theorem dX17_isBefore_8 : decode cX17_isBefore 8 = .ok (.invokestatic 61, 3) := dk_184 0 61 (dk_at dksX17_isBefore_0 8 rfl rfl)
theorem dX17_isBefore_11 : decode cX17_isBefore 11 = .ok (.if_icmp .eq 23, 3) := dk_159 0 23 (dk_at dksX17_isBefore_0 11 rfl rfl)
theorem dX17_isBefore_14 : decode cX17_isBefore 14 = .ok (.iload_n 1, 1) := dk_27 (dk_at dksX17_isBefore_0 14 rfl rfl)
theorem dX17_isBefore_15 : decode cX17_isBefore 15 = .ok (.invokestatic 61, 3) := dk_184 0 61 (dk_at dksX17_isBefore_0 15 rfl rfl)
theorem dX17_isBefore_18 : decode cX17_isBefore 18 = .ok (.aload_n 0, 1) := dk_42 (dk_at dksX17_isBefore_0 18 rfl rfl)
theorem dX17_isBefore_19 : decode cX17_isBefore 19 = .ok (.getfield 15, 3) := dk_180 0 15 (dk_at dksX17_isBefore_0 19 rfl rfl)
theorem dX17_isBefore_22 : decode cX17_isBefore 22 = .ok (.invokestatic 61, 3) := dk_184 0 61 (dk_at dksX17_isBefore_1 0 rfl rfl)
theorem dX17_isBefore_25 : decode cX17_isBefore 25 = .ok (.if_icmp .ge 7, 3) := dk_162 0 7 (dk_at dksX17_isBefore_1 3 rfl rfl)
theorem dX17_isBefore_28 : decode cX17_isBefore 28 = .ok (.iconst 1, 1) := dk_4 (dk_at dksX17_isBefore_1 6 rfl rfl)
theorem dX17_isBefore_29 : decode cX17_isBefore 29 = .ok (.goto 4, 3) := dk_167 0 4 (dk_at dksX17_isBefore_1 7 rfl rfl)
theorem dX17_isBefore_32 : decode cX17_isBefore 32 = .ok (.iconst 0, 1) := dk_3 (dk_at dksX17_isBefore_1 10 rfl rfl)
theorem dX17_isBefore_33 : decode cX17_isBefore 33 = .ok (.ireturn, 1) := dk_172 (dk_at dksX17_isBefore_1 11 rfl rfl)
theorem dX17_isBefore_34 : decode cX17_isBefore 34 = .ok (.iload_n 1, 1) := dk_27 (dk_at dksX17_isBefore_1 12 rfl rfl)
theorem dX17_isBefore_35 : decode cX17_isBefore 35 = .ok (.aload_n 0, 1) := dk_42 (dk_at dksX17_isBefore_1 13 rfl rfl)
theorem dX17_isBefore_36 : decode cX17_isBefore 36 = .ok (.getfield 15, 3) := dk_180 0 15 (dk_at dksX17_isBefore_1 14 rfl rfl)
theorem dX17_isBefore_39 : decode cX17_isBefore 39 = .ok (.if_icmp .lt 19, 3) := dk_161 0 19 (dk_at dksX17_isBefore_1 17 rfl rfl)
theorem dX17_isBefore_42 : decode cX17_isBefore 42 = .ok (.iload_n 1, 1) := dk_27 (dk_at dksX17_isBefore_1 20 rfl rfl)
theorem dX17_isBefore_43 : decode cX17_isBefore 43 = .ok (.aload_n 0, 1) := dk_42 (dk_at dksX17_isBefore_1 21 rfl rfl)
theorem dX17_isBefore_44 : decode cX17_isBefore 44 = .ok (.getfield 15, 3) := dk_180 0 15 (dk_at dksX17_isBefore_2 0 rfl rfl)
theorem dX17_isBefore_47 : decode cX17_isBefore 47 = .ok (.if_icmp .ne 15, 3) := dk_160 0 15 (dk_at dksX17_isBefore_2 3 rfl rfl)
theorem dX17_isBefore_50 : decode cX17_isBefore 50 = .ok (.iload_n 2, 1) := dk_28 (dk_at dksX17_isBefore_2 6 rfl rfl)
theorem dX17_isBefore_51 : decode cX17_isBefore 51 = .ok (.aload_n 0, 1) := dk_42 (dk_at dksX17_isBefore_2 7 rfl rfl)
theorem dX17_isBefore_52 : decode cX17_isBefore 52 = .ok (.getfield 19, 3) := dk_180 0 19 (dk_at dksX17_isBefore_2 8 rfl rfl)
theorem dX17_isBefore_55 : decode cX17_isBefore 55 = .ok (.if_icmp .ge 7, 3) := dk_162 0 7 (dk_at dksX17_isBefore_2 11 rfl rfl)
theorem dX17_isBefore_58 : decode cX17_isBefore 58 = .ok (.iconst 1, 1) := dk_4 (dk_at dksX17_isBefore_2 14 rfl rfl)
theorem dX17_isBefore_59 : decode cX17_isBefore 59 = .ok (.goto 4, 3) := dk_167 0 4 (dk_at dksX17_isBefore_2 15 rfl rfl)
theorem dX17_isBefore_62 : decode cX17_isBefore 62 = .ok (.iconst 0, 1) := dk_3 (dk_at dksX17_isBefore_2 18 rfl rfl)
theorem dX17_isBefore_63 : decode cX17_isBefore 63 = .ok (.ireturn, 1) := dk_172 (dk_at dksX17_isBefore_2 19 rfl rfl)
theorem q125 : (Jvm.Cond.initialized "ScaleInspection$BestWeighing") ∈ lw_all := lw_g (lw_at lw_m1 40 rfl) rfl
theorem q866 : (Jvm.Cond.selects "ScaleInspection$BestWeighing" ({ cls := "java/lang/Object", name := "getClass", desc := "()Ljava/lang/Class;" } : Jvm.MethodName) ({ cls := "java/lang/Object", name := "getClass", desc := "()Ljava/lang/Class;" } : Jvm.MethodName)) ∈ lw_all := lw_g (lw_at lw_m4 61 rfl) rfl
theorem q963 : (Jvm.Cond.fieldLinkNest "ScaleInspection$BestWeighing" (29 : Nat) "ScaleInspection$Hypotheses" "heavy" "I" "ScaleInspection") ∈ lw_tbl := lw_at lw_m4 158 rfl
theorem q966 : (Jvm.Cond.fieldLinkNest "ScaleInspection$BestWeighing" (34 : Nat) "ScaleInspection$Hypotheses" "light" "I" "ScaleInspection") ∈ lw_tbl := lw_at lw_m4 161 rfl
theorem q971 : (Jvm.Cond.fieldLinkNest "ScaleInspection$BestWeighing" (81 : Nat) "ScaleInspection$Hypotheses" "genuine" "Z" "ScaleInspection") ∈ lw_tbl := lw_at lw_m4 166 rfl
theorem q1433 : (Jvm.Cond.instantiable "ScaleInspection$BestWeighing" (10 : Nat)) ∈ lw_all := lw_g (lw_at lw_m6 148 rfl) rfl
theorem q1435 : (Jvm.Cond.instanceMethod ({ cls := "ScaleInspection$BestWeighing", name := "<init>", desc := "(LScaleInspection;ILScaleInspection$Hypotheses;)V" } : Jvm.MethodName)) ∈ lw_all := lw_g (lw_at lw_m6 150 rfl) rfl
theorem q1436 : (Jvm.Cond.code ({ cls := "ScaleInspection$BestWeighing", name := "<init>", desc := "(LScaleInspection;ILScaleInspection$Hypotheses;)V" } : Jvm.MethodName) prog_7_method_1_code (4 : Nat) (Option.none : Option Jvm.ClassFile.FieldType)) ∈ lw_all := lw_g (lw_at lw_m6 151 rfl) rfl
theorem q1437 : (Jvm.Cond.methodLink "ScaleInspection$BestWeighing" (9 : Nat) ({ cls := "java/lang/Object", name := "<init>", desc := "()V" } : Jvm.MethodName)) ∈ lw_all := lw_g (lw_at lw_m6 152 rfl) rfl
theorem q1438 : (Jvm.Cond.methodLinkNest "ScaleInspection$BestWeighing" (45 : Nat) ({ cls := "ScaleInspection", name := "neededFor", desc := "(ILScaleInspection$Hypotheses;)I" } : Jvm.MethodName) "ScaleInspection") ∈ lw_tbl := lw_at lw_m6 153 rfl
theorem q1439 : (Jvm.Cond.methodLink "ScaleInspection$BestWeighing" (52 : Nat) ({ cls := "ScaleInspection$BestWeighing", name := "search", desc := "()V" } : Jvm.MethodName)) ∈ lw_all := lw_g (lw_at lw_m6 154 rfl) rfl
theorem q1440 : (Jvm.Cond.privateMethod ({ cls := "ScaleInspection$BestWeighing", name := "search", desc := "()V" } : Jvm.MethodName)) ∈ lw_tbl := lw_at lw_m6 155 rfl
theorem q1441 : (Jvm.Cond.instanceMethod ({ cls := "ScaleInspection$BestWeighing", name := "search", desc := "()V" } : Jvm.MethodName)) ∈ lw_all := lw_g (lw_at lw_m6 156 rfl) rfl
theorem q1442 : (Jvm.Cond.code ({ cls := "ScaleInspection$BestWeighing", name := "search", desc := "()V" } : Jvm.MethodName) prog_7_method_3_code (4 : Nat) (Option.none : Option Jvm.ClassFile.FieldType)) ∈ lw_all := lw_g (lw_at lw_m6 157 rfl) rfl
theorem q1443 : (Jvm.Cond.methodLink "ScaleInspection$BestWeighing" (61 : Nat) ({ cls := "ScaleInspection$BestWeighing", name := "size", desc := "(I)I" } : Jvm.MethodName)) ∈ lw_all := lw_g (lw_at lw_m6 158 rfl) rfl
theorem q1444 : (Jvm.Cond.static ({ cls := "ScaleInspection$BestWeighing", name := "size", desc := "(I)I" } : Jvm.MethodName)) ∈ lw_all := lw_g (lw_at lw_m6 159 rfl) rfl
theorem q1445 : (Jvm.Cond.code ({ cls := "ScaleInspection$BestWeighing", name := "size", desc := "(I)I" } : Jvm.MethodName) prog_7_method_2_code (1 : Nat) (Option.some Jvm.ClassFile.FieldType.int)) ∈ lw_all := lw_g (lw_at lw_m6 160 rfl) rfl
theorem q1446 : (Jvm.Cond.methodLink "ScaleInspection$BestWeighing" (55 : Nat) ({ cls := "java/lang/Integer", name := "bitCount", desc := "(I)I" } : Jvm.MethodName)) ∈ lw_all := lw_g (lw_at lw_m6 161 rfl) rfl
theorem q1447 : (Jvm.Cond.methodLink "ScaleInspection$BestWeighing" (64 : Nat) ({ cls := "ScaleInspection$BestWeighing", name := "searchRight", desc := "(III)V" } : Jvm.MethodName)) ∈ lw_all := lw_g (lw_at lw_m6 162 rfl) rfl
theorem q1448 : (Jvm.Cond.privateMethod ({ cls := "ScaleInspection$BestWeighing", name := "searchRight", desc := "(III)V" } : Jvm.MethodName)) ∈ lw_tbl := lw_at lw_m6 163 rfl
theorem q1449 : (Jvm.Cond.instanceMethod ({ cls := "ScaleInspection$BestWeighing", name := "searchRight", desc := "(III)V" } : Jvm.MethodName)) ∈ lw_all := lw_g (lw_at lw_m6 164 rfl) rfl
theorem q1450 : (Jvm.Cond.code ({ cls := "ScaleInspection$BestWeighing", name := "searchRight", desc := "(III)V" } : Jvm.MethodName) prog_7_method_4_code (7 : Nat) (Option.none : Option Jvm.ClassFile.FieldType)) ∈ lw_all := lw_g (lw_at lw_m6 165 rfl) rfl
theorem q1451 : (Jvm.Cond.methodLink "ScaleInspection$BestWeighing" (68 : Nat) ({ cls := "ScaleInspection$BestWeighing", name := "tries", desc := "(IIIIII)V" } : Jvm.MethodName)) ∈ lw_all := lw_g (lw_at lw_m6 166 rfl) rfl
theorem q1452 : (Jvm.Cond.privateMethod ({ cls := "ScaleInspection$BestWeighing", name := "tries", desc := "(IIIIII)V" } : Jvm.MethodName)) ∈ lw_tbl := lw_at lw_m6 167 rfl
theorem q1453 : (Jvm.Cond.instanceMethod ({ cls := "ScaleInspection$BestWeighing", name := "tries", desc := "(IIIIII)V" } : Jvm.MethodName)) ∈ lw_all := lw_g (lw_at lw_m6 168 rfl) rfl
theorem q1454 : (Jvm.Cond.code ({ cls := "ScaleInspection$BestWeighing", name := "tries", desc := "(IIIIII)V" } : Jvm.MethodName) prog_7_method_5_code (10 : Nat) (Option.none : Option Jvm.ClassFile.FieldType)) ∈ lw_all := lw_g (lw_at lw_m6 169 rfl) rfl
theorem q1455 : (Jvm.Cond.methodLink "ScaleInspection$BestWeighing" (72 : Nat) ({ cls := "java/lang/Math", name := "abs", desc := "(I)I" } : Jvm.MethodName)) ∈ lw_all := lw_g (lw_at lw_m6 170 rfl) rfl
theorem q1456 : (Jvm.Cond.methodLinkNest "ScaleInspection$BestWeighing" (77 : Nat) ({ cls := "ScaleInspection", name := "solver", desc := "(I)LScaleInspection$Solver;" } : Jvm.MethodName) "ScaleInspection") ∈ lw_tbl := lw_at lw_m6 171 rfl
theorem q1457 : (Jvm.Cond.methodLink "ScaleInspection$BestWeighing" (85 : Nat) ({ cls := "ScaleInspection$Solver", name := "worst", desc := "(IIIIIIIIII)I" } : Jvm.MethodName)) ∈ lw_all := lw_g (lw_at lw_m6 172 rfl) rfl
theorem q1458 : (Jvm.Cond.methodLinkNest "ScaleInspection$BestWeighing" (91 : Nat) ({ cls := "ScaleInspection", name := "lowest", desc := "(II)I" } : Jvm.MethodName) "ScaleInspection") ∈ lw_tbl := lw_at lw_m6 173 rfl
theorem q1461 : (Jvm.Cond.methodLink "ScaleInspection$BestWeighing" (95 : Nat) ({ cls := "java/lang/Math", name := "max", desc := "(II)I" } : Jvm.MethodName)) ∈ lw_all := lw_g (lw_at lw_m6 176 rfl) rfl
theorem q1462 : (Jvm.Cond.methodLink "ScaleInspection$BestWeighing" (98 : Nat) ({ cls := "ScaleInspection$BestWeighing", name := "isBefore", desc := "(II)Z" } : Jvm.MethodName)) ∈ lw_all := lw_g (lw_at lw_m6 177 rfl) rfl
theorem q1463 : (Jvm.Cond.privateMethod ({ cls := "ScaleInspection$BestWeighing", name := "isBefore", desc := "(II)Z" } : Jvm.MethodName)) ∈ lw_tbl := lw_at lw_m6 178 rfl
theorem q1464 : (Jvm.Cond.instanceMethod ({ cls := "ScaleInspection$BestWeighing", name := "isBefore", desc := "(II)Z" } : Jvm.MethodName)) ∈ lw_all := lw_g (lw_at lw_m6 179 rfl) rfl
theorem q1465 : (Jvm.Cond.code ({ cls := "ScaleInspection$BestWeighing", name := "isBefore", desc := "(II)Z" } : Jvm.MethodName) prog_7_method_6_code (3 : Nat) (Option.some Jvm.ClassFile.FieldType.boolean)) ∈ lw_all := lw_g (lw_at lw_m6 180 rfl) rfl
theorem q1466 : (Jvm.Cond.fieldLink "ScaleInspection$BestWeighing" (25 : Nat) "ScaleInspection$BestWeighing" "h" "LScaleInspection$Hypotheses;") ∈ lw_all := lw_g (lw_at lw_m6 181 rfl) rfl
theorem q1467 : (Jvm.Cond.fieldLink "ScaleInspection$BestWeighing" (22 : Nat) "ScaleInspection$BestWeighing" "count" "I") ∈ lw_all := lw_g (lw_at lw_m6 182 rfl) rfl
theorem q1468 : (Jvm.Cond.fieldLink "ScaleInspection$BestWeighing" (37 : Nat) "ScaleInspection$BestWeighing" "both" "I") ∈ lw_all := lw_g (lw_at lw_m6 183 rfl) rfl
theorem q1469 : (Jvm.Cond.fieldLink "ScaleInspection$BestWeighing" (40 : Nat) "ScaleInspection$BestWeighing" "heavy" "I") ∈ lw_all := lw_g (lw_at lw_m6 184 rfl) rfl
theorem q1470 : (Jvm.Cond.fieldLink "ScaleInspection$BestWeighing" (41 : Nat) "ScaleInspection$BestWeighing" "light" "I") ∈ lw_all := lw_g (lw_at lw_m6 185 rfl) rfl
theorem q1471 : (Jvm.Cond.fieldLink "ScaleInspection$BestWeighing" (42 : Nat) "ScaleInspection$BestWeighing" "known" "I") ∈ lw_all := lw_g (lw_at lw_m6 186 rfl) rfl
theorem q1472 : (Jvm.Cond.fieldLink "ScaleInspection$BestWeighing" (49 : Nat) "ScaleInspection$BestWeighing" "needed" "I") ∈ lw_all := lw_g (lw_at lw_m6 187 rfl) rfl
theorem q1473 : (Jvm.Cond.fieldLink "ScaleInspection$BestWeighing" (15 : Nat) "ScaleInspection$BestWeighing" "left" "I") ∈ lw_all := lw_g (lw_at lw_m6 188 rfl) rfl
theorem q1475 : (Jvm.Cond.fieldLink "ScaleInspection$BestWeighing" (19 : Nat) "ScaleInspection$BestWeighing" "right" "I") ∈ lw_all := lw_g (lw_at lw_m6 190 rfl) rfl
theorem q1477 : (Jvm.Cond.fieldLink "ScaleInspection$BestWeighing" (3 : Nat) "ScaleInspection$BestWeighing" "this$0" "LScaleInspection;") ∈ lw_all := lw_g (lw_at lw_m6 192 rfl) rfl
theorem q1478 : (Jvm.Cond.laysFinal "ScaleInspection$BestWeighing" "ScaleInspection$BestWeighing" "h" "LScaleInspection$Hypotheses;") ∈ lw_all := lw_g (lw_at lw_m6 193 rfl) rfl
theorem q1479 : (Jvm.Cond.soleField "ScaleInspection$BestWeighing" "h") ∈ lw_all := lw_g (lw_at lw_m6 194 rfl) rfl
theorem q1480 : (Jvm.Cond.laysFinal "ScaleInspection$BestWeighing" "ScaleInspection$BestWeighing" "count" "I") ∈ lw_all := lw_g (lw_at lw_m6 195 rfl) rfl
theorem q1481 : (Jvm.Cond.soleField "ScaleInspection$BestWeighing" "count") ∈ lw_all := lw_g (lw_at lw_m6 196 rfl) rfl
theorem q1482 : (Jvm.Cond.laysFinal "ScaleInspection$BestWeighing" "ScaleInspection$BestWeighing" "both" "I") ∈ lw_all := lw_g (lw_at lw_m6 197 rfl) rfl
theorem q1483 : (Jvm.Cond.soleField "ScaleInspection$BestWeighing" "both") ∈ lw_all := lw_g (lw_at lw_m6 198 rfl) rfl
theorem q1484 : (Jvm.Cond.laysFinal "ScaleInspection$BestWeighing" "ScaleInspection$BestWeighing" "heavy" "I") ∈ lw_all := lw_g (lw_at lw_m6 199 rfl) rfl
theorem q1485 : (Jvm.Cond.soleField "ScaleInspection$BestWeighing" "heavy") ∈ lw_all := lw_g (lw_at lw_m6 200 rfl) rfl
theorem q1486 : (Jvm.Cond.laysFinal "ScaleInspection$BestWeighing" "ScaleInspection$BestWeighing" "light" "I") ∈ lw_all := lw_g (lw_at lw_m6 201 rfl) rfl
theorem q1487 : (Jvm.Cond.soleField "ScaleInspection$BestWeighing" "light") ∈ lw_all := lw_g (lw_at lw_m6 202 rfl) rfl
theorem q1488 : (Jvm.Cond.laysFinal "ScaleInspection$BestWeighing" "ScaleInspection$BestWeighing" "known" "I") ∈ lw_all := lw_g (lw_at lw_m6 203 rfl) rfl
theorem q1489 : (Jvm.Cond.soleField "ScaleInspection$BestWeighing" "known") ∈ lw_all := lw_g (lw_at lw_m6 204 rfl) rfl
theorem q1490 : (Jvm.Cond.laysFinal "ScaleInspection$BestWeighing" "ScaleInspection$BestWeighing" "needed" "I") ∈ lw_all := lw_g (lw_at lw_m6 205 rfl) rfl
theorem q1491 : (Jvm.Cond.soleField "ScaleInspection$BestWeighing" "needed") ∈ lw_all := lw_g (lw_at lw_m6 206 rfl) rfl
theorem q1492 : (Jvm.Cond.lays "ScaleInspection$BestWeighing" "ScaleInspection$BestWeighing" "left" "I") ∈ lw_all := lw_g (lw_at lw_m6 207 rfl) rfl
theorem q1493 : (Jvm.Cond.soleField "ScaleInspection$BestWeighing" "left") ∈ lw_all := lw_g (lw_at lw_m6 208 rfl) rfl
theorem q1494 : (Jvm.Cond.lays "ScaleInspection$BestWeighing" "ScaleInspection$BestWeighing" "right" "I") ∈ lw_all := lw_g (lw_at lw_m6 209 rfl) rfl
theorem q1495 : (Jvm.Cond.soleField "ScaleInspection$BestWeighing" "right") ∈ lw_all := lw_g (lw_at lw_m6 210 rfl) rfl
theorem q1496 : (Jvm.Cond.laysFinal "ScaleInspection$BestWeighing" "ScaleInspection$BestWeighing" "this$0" "LScaleInspection;") ∈ lw_all := lw_g (lw_at lw_m6 211 rfl) rfl
theorem q1497 : (Jvm.Cond.soleField "ScaleInspection$BestWeighing" "this$0") ∈ lw_all := lw_g (lw_at lw_m6 212 rfl) rfl
theorem q1498 : (Jvm.Cond.superclass "ScaleInspection$BestWeighing" "java/lang/Object") ∈ lw_all := lw_g (lw_at lw_m6 213 rfl) rfl
theorem q2227 : (Jvm.Cond.castable "ScaleInspection$BestWeighing" "java/lang/Object") ∈ lw_tbl := lw_at lw_m9 222 rfl


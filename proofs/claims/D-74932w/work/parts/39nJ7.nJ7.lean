set_option maxRecDepth 100000
/-! java/lang/AbstractStringBuilder -/
abbrev cJ7_init : ByteArray := prog_23_method_2_code
def yJ7_init : MethodName := ⟨RJ7, "<init>", "(I)V"⟩
def dkwJ7_init_1 : List UInt8 := [167, 0, 16, 42, 27, 184, 0, 26, 181, 0, 15, 42, 4, 181, 0, 22, 177]
abbrev dktJ7_init_1 : List UInt8 := dkwJ7_init_1 ++ []
def dkwJ7_init_0 : List UInt8 := [42, 183, 0, 3, 178, 0, 18, 153, 0, 18, 42, 27, 188, 8, 181, 0, 15, 42, 3, 181, 0, 22]
abbrev dktJ7_init_0 : List UInt8 := dkwJ7_init_0 ++ dktJ7_init_1
theorem dksJ7_init_0 : cJ7_init.data.toList.drop 0 = dktJ7_init_0 := by decide +kernel
theorem dksJ7_init_1 : cJ7_init.data.toList.drop 22 = dktJ7_init_1 := dk_seg dksJ7_init_0 22 rfl rfl
theorem dJ7_init_0 : decode cJ7_init 0 = .ok (.aload_n 0, 1) := dk_42 (dk_at dksJ7_init_0 0 rfl rfl)
theorem dJ7_init_1 : decode cJ7_init 1 = .ok (.invokespecial 3, 3) := dk_183 0 3 (dk_at dksJ7_init_0 1 rfl rfl)
theorem dJ7_init_4 : decode cJ7_init 4 = .ok (.getstatic 18, 3) := dk_178 0 18 (dk_at dksJ7_init_0 4 rfl rfl)
theorem dJ7_init_7 : decode cJ7_init 7 = .ok (.ifCond .eq 18, 3) := dk_153 0 18 (dk_at dksJ7_init_0 7 rfl rfl)
theorem dJ7_init_10 : decode cJ7_init 10 = .ok (.aload_n 0, 1) := dk_42 (dk_at dksJ7_init_0 10 rfl rfl)
theorem dJ7_init_11 : decode cJ7_init 11 = .ok (.iload_n 1, 1) := dk_27 (dk_at dksJ7_init_0 11 rfl rfl)
theorem dJ7_init_12 : decode cJ7_init 12 = .ok (.newarray .byte, 2) := dk_188_8 (dk_at dksJ7_init_0 12 rfl rfl)
theorem dJ7_init_14 : decode cJ7_init 14 = .ok (.putfield 15, 3) := dk_181 0 15 (dk_at dksJ7_init_0 14 rfl rfl)
theorem dJ7_init_17 : decode cJ7_init 17 = .ok (.aload_n 0, 1) := dk_42 (dk_at dksJ7_init_0 17 rfl rfl)
theorem dJ7_init_18 : decode cJ7_init 18 = .ok (.iconst 0, 1) := dk_3 (dk_at dksJ7_init_0 18 rfl rfl)
theorem dJ7_init_19 : decode cJ7_init 19 = .ok (.putfield 22, 3) := dk_181 0 22 (dk_at dksJ7_init_0 19 rfl rfl)
theorem dJ7_init_22 : decode cJ7_init 22 = .ok (.goto 16, 3) := dk_167 0 16 (dk_at dksJ7_init_1 0 rfl rfl)
theorem dJ7_init_25 : decode cJ7_init 25 = .ok (.aload_n 0, 1) := dk_42 (dk_at dksJ7_init_1 3 rfl rfl)
theorem dJ7_init_26 : decode cJ7_init 26 = .ok (.iload_n 1, 1) := dk_27 (dk_at dksJ7_init_1 4 rfl rfl)
theorem dJ7_init_27 : decode cJ7_init 27 = .ok (.invokestatic 26, 3) := dk_184 0 26 (dk_at dksJ7_init_1 5 rfl rfl)
theorem dJ7_init_30 : decode cJ7_init 30 = .ok (.putfield 15, 3) := dk_181 0 15 (dk_at dksJ7_init_1 8 rfl rfl)
theorem dJ7_init_33 : decode cJ7_init 33 = .ok (.aload_n 0, 1) := dk_42 (dk_at dksJ7_init_1 11 rfl rfl)
theorem dJ7_init_34 : decode cJ7_init 34 = .ok (.iconst 1, 1) := dk_4 (dk_at dksJ7_init_1 12 rfl rfl)
theorem dJ7_init_35 : decode cJ7_init 35 = .ok (.putfield 22, 3) := dk_181 0 22 (dk_at dksJ7_init_1 13 rfl rfl)
theorem dJ7_init_38 : decode cJ7_init 38 = .ok (.return_, 1) := dk_177 (dk_at dksJ7_init_1 16 rfl rfl)
abbrev cJ7_append : ByteArray := prog_23_method_22_code
def yJ7_append : MethodName := ⟨RJ7, "append", "(Ljava/lang/String;)Ljava/lang/AbstractStringBuilder;"⟩
def dkwJ7_append_1 : List UInt8 := [42, 42, 180, 0, 79, 43, 182, 0, 208, 42, 89, 180, 0, 79, 28, 96, 181, 0, 79, 42, 176]
abbrev dktJ7_append_1 : List UInt8 := dkwJ7_append_1 ++ []
def dkwJ7_append_0 : List UInt8 := [43, 199, 0, 8, 42, 182, 0, 204, 176, 43, 182, 0, 32, 61, 42, 42, 180, 0, 79, 28, 96, 182, 0, 100]
abbrev dktJ7_append_0 : List UInt8 := dkwJ7_append_0 ++ dktJ7_append_1
theorem dksJ7_append_0 : cJ7_append.data.toList.drop 0 = dktJ7_append_0 := by decide +kernel
theorem dksJ7_append_1 : cJ7_append.data.toList.drop 24 = dktJ7_append_1 := dk_seg dksJ7_append_0 24 rfl rfl
theorem dJ7_append_0 : decode cJ7_append 0 = .ok (.aload_n 1, 1) := dk_43 (dk_at dksJ7_append_0 0 rfl rfl)
theorem dJ7_append_1 : decode cJ7_append 1 = .ok (.ifnonnull 8, 3) := dk_199 0 8 (dk_at dksJ7_append_0 1 rfl rfl)
theorem dJ7_append_4 : decode cJ7_append 4 = .ok (.aload_n 0, 1) := dk_42 (dk_at dksJ7_append_0 4 rfl rfl)
theorem dJ7_append_5 : decode cJ7_append 5 = .ok (.invokevirtual 204, 3) := dk_182 0 204 (dk_at dksJ7_append_0 5 rfl rfl)
theorem dJ7_append_8 : decode cJ7_append 8 = .ok (.areturn, 1) := dk_176 (dk_at dksJ7_append_0 8 rfl rfl)
theorem dJ7_append_9 : decode cJ7_append 9 = .ok (.aload_n 1, 1) := dk_43 (dk_at dksJ7_append_0 9 rfl rfl)
theorem dJ7_append_10 : decode cJ7_append 10 = .ok (.invokevirtual 32, 3) := dk_182 0 32 (dk_at dksJ7_append_0 10 rfl rfl)
theorem dJ7_append_13 : decode cJ7_append 13 = .ok (.istore_n 2, 1) := dk_61 (dk_at dksJ7_append_0 13 rfl rfl)
theorem dJ7_append_14 : decode cJ7_append 14 = .ok (.aload_n 0, 1) := dk_42 (dk_at dksJ7_append_0 14 rfl rfl)
theorem dJ7_append_15 : decode cJ7_append 15 = .ok (.aload_n 0, 1) := dk_42 (dk_at dksJ7_append_0 15 rfl rfl)
theorem dJ7_append_16 : decode cJ7_append 16 = .ok (.getfield 79, 3) := dk_180 0 79 (dk_at dksJ7_append_0 16 rfl rfl)
theorem dJ7_append_19 : decode cJ7_append 19 = .ok (.iload_n 2, 1) := dk_28 (dk_at dksJ7_append_0 19 rfl rfl)
theorem dJ7_append_20 : decode cJ7_append 20 = .ok (.iadd, 1) := dk_96 (dk_at dksJ7_append_0 20 rfl rfl)
theorem dJ7_append_21 : decode cJ7_append 21 = .ok (.invokevirtual 100, 3) := dk_182 0 100 (dk_at dksJ7_append_0 21 rfl rfl)
theorem dJ7_append_24 : decode cJ7_append 24 = .ok (.aload_n 0, 1) := dk_42 (dk_at dksJ7_append_1 0 rfl rfl)
theorem dJ7_append_25 : decode cJ7_append 25 = .ok (.aload_n 0, 1) := dk_42 (dk_at dksJ7_append_1 1 rfl rfl)
theorem dJ7_append_26 : decode cJ7_append 26 = .ok (.getfield 79, 3) := dk_180 0 79 (dk_at dksJ7_append_1 2 rfl rfl)
theorem dJ7_append_29 : decode cJ7_append 29 = .ok (.aload_n 1, 1) := dk_43 (dk_at dksJ7_append_1 5 rfl rfl)
theorem dJ7_append_30 : decode cJ7_append 30 = .ok (.invokevirtual 208, 3) := dk_182 0 208 (dk_at dksJ7_append_1 6 rfl rfl)
theorem dJ7_append_33 : decode cJ7_append 33 = .ok (.aload_n 0, 1) := dk_42 (dk_at dksJ7_append_1 9 rfl rfl)
theorem dJ7_append_34 : decode cJ7_append 34 = .ok (.dup, 1) := dk_89 (dk_at dksJ7_append_1 10 rfl rfl)
theorem dJ7_append_35 : decode cJ7_append 35 = .ok (.getfield 79, 3) := dk_180 0 79 (dk_at dksJ7_append_1 11 rfl rfl)
theorem dJ7_append_38 : decode cJ7_append 38 = .ok (.iload_n 2, 1) := dk_28 (dk_at dksJ7_append_1 14 rfl rfl)
theorem dJ7_append_39 : decode cJ7_append 39 = .ok (.iadd, 1) := dk_96 (dk_at dksJ7_append_1 15 rfl rfl)
theorem dJ7_append_40 : decode cJ7_append 40 = .ok (.putfield 79, 3) := dk_181 0 79 (dk_at dksJ7_append_1 16 rfl rfl)
theorem dJ7_append_43 : decode cJ7_append 43 = .ok (.aload_n 0, 1) := dk_42 (dk_at dksJ7_append_1 19 rfl rfl)
theorem dJ7_append_44 : decode cJ7_append 44 = .ok (.areturn, 1) := dk_176 (dk_at dksJ7_append_1 20 rfl rfl)
abbrev cJ7_appendNull : ByteArray := prog_23_method_26_code
def yJ7_appendNull : MethodName := ⟨RJ7, "appendNull", "()Ljava/lang/AbstractStringBuilder;"⟩
def dkwJ7_appendNull_3 : List UInt8 := [184, 0, 226, 60, 42, 27, 181, 0, 79, 42, 176]
abbrev dktJ7_appendNull_3 : List UInt8 := dkwJ7_appendNull_3 ++ []
def dkwJ7_appendNull_2 : List UInt8 := [16, 108, 84, 44, 27, 132, 1, 1, 16, 108, 84, 167, 0, 17, 44, 27, 16, 110, 16, 117, 16, 108, 16, 108]
abbrev dktJ7_appendNull_2 : List UInt8 := dkwJ7_appendNull_2 ++ dktJ7_appendNull_3
def dkwJ7_appendNull_1 : List UInt8 := [153, 0, 38, 44, 27, 132, 1, 1, 16, 110, 84, 44, 27, 132, 1, 1, 16, 117, 84, 44, 27, 132, 1, 1]
abbrev dktJ7_appendNull_1 : List UInt8 := dkwJ7_appendNull_1 ++ dktJ7_appendNull_2
def dkwJ7_appendNull_0 : List UInt8 := [42, 42, 180, 0, 79, 7, 96, 182, 0, 100, 42, 180, 0, 79, 60, 42, 180, 0, 15, 77, 42, 182, 0, 83]
abbrev dktJ7_appendNull_0 : List UInt8 := dkwJ7_appendNull_0 ++ dktJ7_appendNull_1
theorem dksJ7_appendNull_0 : cJ7_appendNull.data.toList.drop 0 = dktJ7_appendNull_0 := by decide +kernel
theorem dksJ7_appendNull_1 : cJ7_appendNull.data.toList.drop 24 = dktJ7_appendNull_1 := dk_seg dksJ7_appendNull_0 24 rfl rfl
theorem dksJ7_appendNull_2 : cJ7_appendNull.data.toList.drop 48 = dktJ7_appendNull_2 := dk_seg dksJ7_appendNull_1 24 rfl rfl
theorem dksJ7_appendNull_3 : cJ7_appendNull.data.toList.drop 72 = dktJ7_appendNull_3 := dk_seg dksJ7_appendNull_2 24 rfl rfl
theorem dJ7_appendNull_0 : decode cJ7_appendNull 0 = .ok (.aload_n 0, 1) := dk_42 (dk_at dksJ7_appendNull_0 0 rfl rfl)
theorem dJ7_appendNull_1 : decode cJ7_appendNull 1 = .ok (.aload_n 0, 1) := dk_42 (dk_at dksJ7_appendNull_0 1 rfl rfl)
theorem dJ7_appendNull_2 : decode cJ7_appendNull 2 = .ok (.getfield 79, 3) := dk_180 0 79 (dk_at dksJ7_appendNull_0 2 rfl rfl)
theorem dJ7_appendNull_5 : decode cJ7_appendNull 5 = .ok (.iconst 4, 1) := dk_7 (dk_at dksJ7_appendNull_0 5 rfl rfl)
theorem dJ7_appendNull_6 : decode cJ7_appendNull 6 = .ok (.iadd, 1) := dk_96 (dk_at dksJ7_appendNull_0 6 rfl rfl)
theorem dJ7_appendNull_7 : decode cJ7_appendNull 7 = .ok (.invokevirtual 100, 3) := dk_182 0 100 (dk_at dksJ7_appendNull_0 7 rfl rfl)
theorem dJ7_appendNull_10 : decode cJ7_appendNull 10 = .ok (.aload_n 0, 1) := dk_42 (dk_at dksJ7_appendNull_0 10 rfl rfl)
theorem dJ7_appendNull_11 : decode cJ7_appendNull 11 = .ok (.getfield 79, 3) := dk_180 0 79 (dk_at dksJ7_appendNull_0 11 rfl rfl)
theorem dJ7_appendNull_14 : decode cJ7_appendNull 14 = .ok (.istore_n 1, 1) := dk_60 (dk_at dksJ7_appendNull_0 14 rfl rfl)
theorem dJ7_appendNull_15 : decode cJ7_appendNull 15 = .ok (.aload_n 0, 1) := dk_42 (dk_at dksJ7_appendNull_0 15 rfl rfl)
theorem dJ7_appendNull_16 : decode cJ7_appendNull 16 = .ok (.getfield 15, 3) := dk_180 0 15 (dk_at dksJ7_appendNull_0 16 rfl rfl)
theorem dJ7_appendNull_19 : decode cJ7_appendNull 19 = .ok (.astore_n 2, 1) := dk_77 (dk_at dksJ7_appendNull_0 19 rfl rfl)
theorem dJ7_appendNull_20 : decode cJ7_appendNull 20 = .ok (.aload_n 0, 1) := dk_42 (dk_at dksJ7_appendNull_0 20 rfl rfl)
theorem dJ7_appendNull_21 : decode cJ7_appendNull 21 = .ok (.invokevirtual 83, 3) := dk_182 0 83 (dk_at dksJ7_appendNull_0 21 rfl rfl)
theorem dJ7_appendNull_24 : decode cJ7_appendNull 24 = .ok (.ifCond .eq 38, 3) := dk_153 0 38 (dk_at dksJ7_appendNull_1 0 rfl rfl)
theorem dJ7_appendNull_27 : decode cJ7_appendNull 27 = .ok (.aload_n 2, 1) := dk_44 (dk_at dksJ7_appendNull_1 3 rfl rfl)
theorem dJ7_appendNull_28 : decode cJ7_appendNull 28 = .ok (.iload_n 1, 1) := dk_27 (dk_at dksJ7_appendNull_1 4 rfl rfl)
theorem dJ7_appendNull_29 : decode cJ7_appendNull 29 = .ok (.iinc 1 1, 3) := dk_132 1 1 (dk_at dksJ7_appendNull_1 5 rfl rfl)
theorem dJ7_appendNull_32 : decode cJ7_appendNull 32 = .ok (.bipush 110, 2) := dk_16 110 (dk_at dksJ7_appendNull_1 8 rfl rfl)
theorem dJ7_appendNull_34 : decode cJ7_appendNull 34 = .ok (.bastore, 1) := dk_84 (dk_at dksJ7_appendNull_1 10 rfl rfl)
theorem dJ7_appendNull_35 : decode cJ7_appendNull 35 = .ok (.aload_n 2, 1) := dk_44 (dk_at dksJ7_appendNull_1 11 rfl rfl)
theorem dJ7_appendNull_36 : decode cJ7_appendNull 36 = .ok (.iload_n 1, 1) := dk_27 (dk_at dksJ7_appendNull_1 12 rfl rfl)
theorem dJ7_appendNull_37 : decode cJ7_appendNull 37 = .ok (.iinc 1 1, 3) := dk_132 1 1 (dk_at dksJ7_appendNull_1 13 rfl rfl)
theorem dJ7_appendNull_40 : decode cJ7_appendNull 40 = .ok (.bipush 117, 2) := dk_16 117 (dk_at dksJ7_appendNull_1 16 rfl rfl)
theorem dJ7_appendNull_42 : decode cJ7_appendNull 42 = .ok (.bastore, 1) := dk_84 (dk_at dksJ7_appendNull_1 18 rfl rfl)
theorem dJ7_appendNull_43 : decode cJ7_appendNull 43 = .ok (.aload_n 2, 1) := dk_44 (dk_at dksJ7_appendNull_1 19 rfl rfl)
theorem dJ7_appendNull_44 : decode cJ7_appendNull 44 = .ok (.iload_n 1, 1) := dk_27 (dk_at dksJ7_appendNull_1 20 rfl rfl)
theorem dJ7_appendNull_45 : decode cJ7_appendNull 45 = .ok (.iinc 1 1, 3) := dk_132 1 1 (dk_at dksJ7_appendNull_1 21 rfl rfl)
theorem dJ7_appendNull_48 : decode cJ7_appendNull 48 = .ok (.bipush 108, 2) := dk_16 108 (dk_at dksJ7_appendNull_2 0 rfl rfl)
theorem dJ7_appendNull_50 : decode cJ7_appendNull 50 = .ok (.bastore, 1) := dk_84 (dk_at dksJ7_appendNull_2 2 rfl rfl)
theorem dJ7_appendNull_51 : decode cJ7_appendNull 51 = .ok (.aload_n 2, 1) := dk_44 (dk_at dksJ7_appendNull_2 3 rfl rfl)
theorem dJ7_appendNull_52 : decode cJ7_appendNull 52 = .ok (.iload_n 1, 1) := dk_27 (dk_at dksJ7_appendNull_2 4 rfl rfl)
theorem dJ7_appendNull_53 : decode cJ7_appendNull 53 = .ok (.iinc 1 1, 3) := dk_132 1 1 (dk_at dksJ7_appendNull_2 5 rfl rfl)
theorem dJ7_appendNull_56 : decode cJ7_appendNull 56 = .ok (.bipush 108, 2) := dk_16 108 (dk_at dksJ7_appendNull_2 8 rfl rfl)
theorem dJ7_appendNull_58 : decode cJ7_appendNull 58 = .ok (.bastore, 1) := dk_84 (dk_at dksJ7_appendNull_2 10 rfl rfl)
theorem dJ7_appendNull_59 : decode cJ7_appendNull 59 = .ok (.goto 17, 3) := dk_167 0 17 (dk_at dksJ7_appendNull_2 11 rfl rfl)
theorem dJ7_appendNull_62 : decode cJ7_appendNull 62 = .ok (.aload_n 2, 1) := dk_44 (dk_at dksJ7_appendNull_2 14 rfl rfl)
theorem dJ7_appendNull_63 : decode cJ7_appendNull 63 = .ok (.iload_n 1, 1) := dk_27 (dk_at dksJ7_appendNull_2 15 rfl rfl)
theorem dJ7_appendNull_64 : decode cJ7_appendNull 64 = .ok (.bipush 110, 2) := dk_16 110 (dk_at dksJ7_appendNull_2 16 rfl rfl)
theorem dJ7_appendNull_66 : decode cJ7_appendNull 66 = .ok (.bipush 117, 2) := dk_16 117 (dk_at dksJ7_appendNull_2 18 rfl rfl)
theorem dJ7_appendNull_68 : decode cJ7_appendNull 68 = .ok (.bipush 108, 2) := dk_16 108 (dk_at dksJ7_appendNull_2 20 rfl rfl)
theorem dJ7_appendNull_70 : decode cJ7_appendNull 70 = .ok (.bipush 108, 2) := dk_16 108 (dk_at dksJ7_appendNull_2 22 rfl rfl)
theorem dJ7_appendNull_72 : decode cJ7_appendNull 72 = .ok (.invokestatic 226, 3) := dk_184 0 226 (dk_at dksJ7_appendNull_3 0 rfl rfl)
theorem dJ7_appendNull_75 : decode cJ7_appendNull 75 = .ok (.istore_n 1, 1) := dk_60 (dk_at dksJ7_appendNull_3 3 rfl rfl)
theorem dJ7_appendNull_76 : decode cJ7_appendNull 76 = .ok (.aload_n 0, 1) := dk_42 (dk_at dksJ7_appendNull_3 4 rfl rfl)
theorem dJ7_appendNull_77 : decode cJ7_appendNull 77 = .ok (.iload_n 1, 1) := dk_27 (dk_at dksJ7_appendNull_3 5 rfl rfl)
theorem dJ7_appendNull_78 : decode cJ7_appendNull 78 = .ok (.putfield 79, 3) := dk_181 0 79 (dk_at dksJ7_appendNull_3 6 rfl rfl)
theorem dJ7_appendNull_81 : decode cJ7_appendNull 81 = .ok (.aload_n 0, 1) := dk_42 (dk_at dksJ7_appendNull_3 9 rfl rfl)
theorem dJ7_appendNull_82 : decode cJ7_appendNull 82 = .ok (.areturn, 1) := dk_176 (dk_at dksJ7_appendNull_3 10 rfl rfl)
abbrev cJ7_ensureCapacityInternal : ByteArray := prog_23_method_9_code
def yJ7_ensureCapacityInternal : MethodName := ⟨RJ7, "ensureCapacityInternal", "(I)V"⟩
def dkwJ7_ensureCapacityInternal_1 : List UInt8 := [182, 0, 104, 42, 180, 0, 22, 120, 184, 0, 108, 181, 0, 15, 177]
abbrev dktJ7_ensureCapacityInternal_1 : List UInt8 := dkwJ7_ensureCapacityInternal_1 ++ []
def dkwJ7_ensureCapacityInternal_0 : List UInt8 := [42, 180, 0, 15, 190, 42, 180, 0, 22, 122, 61, 27, 28, 100, 158, 0, 24, 42, 42, 180, 0, 15, 42, 27]
abbrev dktJ7_ensureCapacityInternal_0 : List UInt8 := dkwJ7_ensureCapacityInternal_0 ++ dktJ7_ensureCapacityInternal_1
theorem dksJ7_ensureCapacityInternal_0 : cJ7_ensureCapacityInternal.data.toList.drop 0 = dktJ7_ensureCapacityInternal_0 := by decide +kernel
theorem dksJ7_ensureCapacityInternal_1 : cJ7_ensureCapacityInternal.data.toList.drop 24 = dktJ7_ensureCapacityInternal_1 := dk_seg dksJ7_ensureCapacityInternal_0 24 rfl rfl
theorem dJ7_ensureCapacityInternal_0 : decode cJ7_ensureCapacityInternal 0 = .ok (.aload_n 0, 1) := dk_42 (dk_at dksJ7_ensureCapacityInternal_0 0 rfl rfl)
theorem dJ7_ensureCapacityInternal_1 : decode cJ7_ensureCapacityInternal 1 = .ok (.getfield 15, 3) := dk_180 0 15 (dk_at dksJ7_ensureCapacityInternal_0 1 rfl rfl)
theorem dJ7_ensureCapacityInternal_4 : decode cJ7_ensureCapacityInternal 4 = .ok (.arraylength, 1) := dk_190 (dk_at dksJ7_ensureCapacityInternal_0 4 rfl rfl)
theorem dJ7_ensureCapacityInternal_5 : decode cJ7_ensureCapacityInternal 5 = .ok (.aload_n 0, 1) := dk_42 (dk_at dksJ7_ensureCapacityInternal_0 5 rfl rfl)
theorem dJ7_ensureCapacityInternal_6 : decode cJ7_ensureCapacityInternal 6 = .ok (.getfield 22, 3) := dk_180 0 22 (dk_at dksJ7_ensureCapacityInternal_0 6 rfl rfl)
theorem dJ7_ensureCapacityInternal_9 : decode cJ7_ensureCapacityInternal 9 = .ok (.ishr, 1) := dk_122 (dk_at dksJ7_ensureCapacityInternal_0 9 rfl rfl)
theorem dJ7_ensureCapacityInternal_10 : decode cJ7_ensureCapacityInternal 10 = .ok (.istore_n 2, 1) := dk_61 (dk_at dksJ7_ensureCapacityInternal_0 10 rfl rfl)
theorem dJ7_ensureCapacityInternal_11 : decode cJ7_ensureCapacityInternal 11 = .ok (.iload_n 1, 1) := dk_27 (dk_at dksJ7_ensureCapacityInternal_0 11 rfl rfl)
theorem dJ7_ensureCapacityInternal_12 : decode cJ7_ensureCapacityInternal 12 = .ok (.iload_n 2, 1) := dk_28 (dk_at dksJ7_ensureCapacityInternal_0 12 rfl rfl)
theorem dJ7_ensureCapacityInternal_13 : decode cJ7_ensureCapacityInternal 13 = .ok (.isub, 1) := dk_100 (dk_at dksJ7_ensureCapacityInternal_0 13 rfl rfl)
theorem dJ7_ensureCapacityInternal_14 : decode cJ7_ensureCapacityInternal 14 = .ok (.ifCond .le 24, 3) := dk_158 0 24 (dk_at dksJ7_ensureCapacityInternal_0 14 rfl rfl)
theorem dJ7_ensureCapacityInternal_17 : decode cJ7_ensureCapacityInternal 17 = .ok (.aload_n 0, 1) := dk_42 (dk_at dksJ7_ensureCapacityInternal_0 17 rfl rfl)
theorem dJ7_ensureCapacityInternal_18 : decode cJ7_ensureCapacityInternal 18 = .ok (.aload_n 0, 1) := dk_42 (dk_at dksJ7_ensureCapacityInternal_0 18 rfl rfl)
theorem dJ7_ensureCapacityInternal_19 : decode cJ7_ensureCapacityInternal 19 = .ok (.getfield 15, 3) := dk_180 0 15 (dk_at dksJ7_ensureCapacityInternal_0 19 rfl rfl)
theorem dJ7_ensureCapacityInternal_22 : decode cJ7_ensureCapacityInternal 22 = .ok (.aload_n 0, 1) := dk_42 (dk_at dksJ7_ensureCapacityInternal_0 22 rfl rfl)
theorem dJ7_ensureCapacityInternal_23 : decode cJ7_ensureCapacityInternal 23 = .ok (.iload_n 1, 1) := dk_27 (dk_at dksJ7_ensureCapacityInternal_0 23 rfl rfl)
theorem dJ7_ensureCapacityInternal_24 : decode cJ7_ensureCapacityInternal 24 = .ok (.invokevirtual 104, 3) := dk_182 0 104 (dk_at dksJ7_ensureCapacityInternal_1 0 rfl rfl)
theorem dJ7_ensureCapacityInternal_27 : decode cJ7_ensureCapacityInternal 27 = .ok (.aload_n 0, 1) := dk_42 (dk_at dksJ7_ensureCapacityInternal_1 3 rfl rfl)
theorem dJ7_ensureCapacityInternal_28 : decode cJ7_ensureCapacityInternal 28 = .ok (.getfield 22, 3) := dk_180 0 22 (dk_at dksJ7_ensureCapacityInternal_1 4 rfl rfl)
theorem dJ7_ensureCapacityInternal_31 : decode cJ7_ensureCapacityInternal 31 = .ok (.ishl, 1) := dk_120 (dk_at dksJ7_ensureCapacityInternal_1 7 rfl rfl)
theorem dJ7_ensureCapacityInternal_32 : decode cJ7_ensureCapacityInternal 32 = .ok (.invokestatic 108, 3) := dk_184 0 108 (dk_at dksJ7_ensureCapacityInternal_1 8 rfl rfl)
theorem dJ7_ensureCapacityInternal_35 : decode cJ7_ensureCapacityInternal 35 = .ok (.putfield 15, 3) := dk_181 0 15 (dk_at dksJ7_ensureCapacityInternal_1 11 rfl rfl)
theorem dJ7_ensureCapacityInternal_38 : decode cJ7_ensureCapacityInternal 38 = .ok (.return_, 1) := dk_177 (dk_at dksJ7_ensureCapacityInternal_1 14 rfl rfl)
abbrev cJ7_newCapacity : ByteArray := prog_23_method_10_code
def yJ7_newCapacity : MethodName := ⟨RJ7, "newCapacity", "(I)I"⟩
def dkwJ7_newCapacity_2 : List UInt8 := [183, 0, 124, 191, 21, 5, 42, 180, 0, 22, 122, 172]
abbrev dktJ7_newCapacity_2 : List UInt8 := dkwJ7_newCapacity_2 ++ []
def dkwJ7_newCapacity_1 : List UInt8 := [180, 0, 22, 120, 96, 184, 0, 114, 54, 5, 21, 5, 18, 39, 160, 0, 13, 187, 0, 120, 89, 18, 122]
abbrev dktJ7_newCapacity_1 : List UInt8 := dkwJ7_newCapacity_1 ++ dktJ7_newCapacity_2
def dkwJ7_newCapacity_0 : List UInt8 := [42, 180, 0, 15, 190, 61, 27, 42, 180, 0, 22, 120, 62, 29, 28, 100, 54, 4, 28, 21, 4, 28, 5, 42]
abbrev dktJ7_newCapacity_0 : List UInt8 := dkwJ7_newCapacity_0 ++ dktJ7_newCapacity_1
theorem dksJ7_newCapacity_0 : cJ7_newCapacity.data.toList.drop 0 = dktJ7_newCapacity_0 := by decide +kernel
theorem dksJ7_newCapacity_1 : cJ7_newCapacity.data.toList.drop 24 = dktJ7_newCapacity_1 := dk_seg dksJ7_newCapacity_0 24 rfl rfl
theorem dksJ7_newCapacity_2 : cJ7_newCapacity.data.toList.drop 47 = dktJ7_newCapacity_2 := dk_seg dksJ7_newCapacity_1 23 rfl rfl
theorem dJ7_newCapacity_0 : decode cJ7_newCapacity 0 = .ok (.aload_n 0, 1) := dk_42 (dk_at dksJ7_newCapacity_0 0 rfl rfl)
theorem dJ7_newCapacity_1 : decode cJ7_newCapacity 1 = .ok (.getfield 15, 3) := dk_180 0 15 (dk_at dksJ7_newCapacity_0 1 rfl rfl)
theorem dJ7_newCapacity_4 : decode cJ7_newCapacity 4 = .ok (.arraylength, 1) := dk_190 (dk_at dksJ7_newCapacity_0 4 rfl rfl)
theorem dJ7_newCapacity_5 : decode cJ7_newCapacity 5 = .ok (.istore_n 2, 1) := dk_61 (dk_at dksJ7_newCapacity_0 5 rfl rfl)
theorem dJ7_newCapacity_6 : decode cJ7_newCapacity 6 = .ok (.iload_n 1, 1) := dk_27 (dk_at dksJ7_newCapacity_0 6 rfl rfl)
theorem dJ7_newCapacity_7 : decode cJ7_newCapacity 7 = .ok (.aload_n 0, 1) := dk_42 (dk_at dksJ7_newCapacity_0 7 rfl rfl)
theorem dJ7_newCapacity_8 : decode cJ7_newCapacity 8 = .ok (.getfield 22, 3) := dk_180 0 22 (dk_at dksJ7_newCapacity_0 8 rfl rfl)
theorem dJ7_newCapacity_11 : decode cJ7_newCapacity 11 = .ok (.ishl, 1) := dk_120 (dk_at dksJ7_newCapacity_0 11 rfl rfl)
theorem dJ7_newCapacity_12 : decode cJ7_newCapacity 12 = .ok (.istore_n 3, 1) := dk_62 (dk_at dksJ7_newCapacity_0 12 rfl rfl)
theorem dJ7_newCapacity_13 : decode cJ7_newCapacity 13 = .ok (.iload_n 3, 1) := dk_29 (dk_at dksJ7_newCapacity_0 13 rfl rfl)
theorem dJ7_newCapacity_14 : decode cJ7_newCapacity 14 = .ok (.iload_n 2, 1) := dk_28 (dk_at dksJ7_newCapacity_0 14 rfl rfl)
theorem dJ7_newCapacity_15 : decode cJ7_newCapacity 15 = .ok (.isub, 1) := dk_100 (dk_at dksJ7_newCapacity_0 15 rfl rfl)
theorem dJ7_newCapacity_16 : decode cJ7_newCapacity 16 = .ok (.istore 4, 2) := dk_54 4 (dk_at dksJ7_newCapacity_0 16 rfl rfl)
theorem dJ7_newCapacity_18 : decode cJ7_newCapacity 18 = .ok (.iload_n 2, 1) := dk_28 (dk_at dksJ7_newCapacity_0 18 rfl rfl)
theorem dJ7_newCapacity_19 : decode cJ7_newCapacity 19 = .ok (.iload 4, 2) := dk_21 4 (dk_at dksJ7_newCapacity_0 19 rfl rfl)
theorem dJ7_newCapacity_21 : decode cJ7_newCapacity 21 = .ok (.iload_n 2, 1) := dk_28 (dk_at dksJ7_newCapacity_0 21 rfl rfl)
theorem dJ7_newCapacity_22 : decode cJ7_newCapacity 22 = .ok (.iconst 2, 1) := dk_5 (dk_at dksJ7_newCapacity_0 22 rfl rfl)
theorem dJ7_newCapacity_23 : decode cJ7_newCapacity 23 = .ok (.aload_n 0, 1) := dk_42 (dk_at dksJ7_newCapacity_0 23 rfl rfl)
theorem dJ7_newCapacity_24 : decode cJ7_newCapacity 24 = .ok (.getfield 22, 3) := dk_180 0 22 (dk_at dksJ7_newCapacity_1 0 rfl rfl)
theorem dJ7_newCapacity_27 : decode cJ7_newCapacity 27 = .ok (.ishl, 1) := dk_120 (dk_at dksJ7_newCapacity_1 3 rfl rfl)
theorem dJ7_newCapacity_28 : decode cJ7_newCapacity 28 = .ok (.iadd, 1) := dk_96 (dk_at dksJ7_newCapacity_1 4 rfl rfl)
theorem dJ7_newCapacity_29 : decode cJ7_newCapacity 29 = .ok (.invokestatic 114, 3) := dk_184 0 114 (dk_at dksJ7_newCapacity_1 5 rfl rfl)
theorem dJ7_newCapacity_32 : decode cJ7_newCapacity 32 = .ok (.istore 5, 2) := dk_54 5 (dk_at dksJ7_newCapacity_1 8 rfl rfl)
theorem dJ7_newCapacity_34 : decode cJ7_newCapacity 34 = .ok (.iload 5, 2) := dk_21 5 (dk_at dksJ7_newCapacity_1 10 rfl rfl)
theorem dJ7_newCapacity_36 : decode cJ7_newCapacity 36 = .ok (.ldc 39, 2) := dk_18 39 (dk_at dksJ7_newCapacity_1 12 rfl rfl)
theorem dJ7_newCapacity_38 : decode cJ7_newCapacity 38 = .ok (.if_icmp .ne 13, 3) := dk_160 0 13 (dk_at dksJ7_newCapacity_1 14 rfl rfl)
theorem dJ7_newCapacity_41 : decode cJ7_newCapacity 41 = .ok (.new 120, 3) := dk_187 0 120 (dk_at dksJ7_newCapacity_1 17 rfl rfl)
theorem dJ7_newCapacity_44 : decode cJ7_newCapacity 44 = .ok (.dup, 1) := dk_89 (dk_at dksJ7_newCapacity_1 20 rfl rfl)
theorem dJ7_newCapacity_45 : decode cJ7_newCapacity 45 = .ok (.ldc 122, 2) := dk_18 122 (dk_at dksJ7_newCapacity_1 21 rfl rfl)
theorem dJ7_newCapacity_47 : decode cJ7_newCapacity 47 = .ok (.invokespecial 124, 3) := dk_183 0 124 (dk_at dksJ7_newCapacity_2 0 rfl rfl)
theorem dJ7_newCapacity_50 : decode cJ7_newCapacity 50 = .ok (.athrow, 1) := dk_191 (dk_at dksJ7_newCapacity_2 3 rfl rfl)
theorem dJ7_newCapacity_51 : decode cJ7_newCapacity 51 = .ok (.iload 5, 2) := dk_21 5 (dk_at dksJ7_newCapacity_2 4 rfl rfl)
theorem dJ7_newCapacity_53 : decode cJ7_newCapacity 53 = .ok (.aload_n 0, 1) := dk_42 (dk_at dksJ7_newCapacity_2 6 rfl rfl)
theorem dJ7_newCapacity_54 : decode cJ7_newCapacity 54 = .ok (.getfield 22, 3) := dk_180 0 22 (dk_at dksJ7_newCapacity_2 7 rfl rfl)
theorem dJ7_newCapacity_57 : decode cJ7_newCapacity 57 = .ok (.ishr, 1) := dk_122 (dk_at dksJ7_newCapacity_2 10 rfl rfl)
theorem dJ7_newCapacity_58 : decode cJ7_newCapacity 58 = .ok (.ireturn, 1) := dk_172 (dk_at dksJ7_newCapacity_2 11 rfl rfl)
abbrev cJ7_isLatin1 : ByteArray := prog_23_method_68_code
def yJ7_isLatin1 : MethodName := ⟨RJ7, "isLatin1", "()Z"⟩
def dkwJ7_isLatin1_0 : List UInt8 := [178, 0, 18, 153, 0, 14, 42, 180, 0, 22, 154, 0, 7, 4, 167, 0, 4, 3, 172]
abbrev dktJ7_isLatin1_0 : List UInt8 := dkwJ7_isLatin1_0 ++ []
theorem dksJ7_isLatin1_0 : cJ7_isLatin1.data.toList.drop 0 = dktJ7_isLatin1_0 := by decide +kernel
theorem dJ7_isLatin1_0 : decode cJ7_isLatin1 0 = .ok (.getstatic 18, 3) := dk_178 0 18 (dk_at dksJ7_isLatin1_0 0 rfl rfl)
theorem dJ7_isLatin1_3 : decode cJ7_isLatin1 3 = .ok (.ifCond .eq 14, 3) := dk_153 0 14 (dk_at dksJ7_isLatin1_0 3 rfl rfl)
theorem dJ7_isLatin1_6 : decode cJ7_isLatin1 6 = .ok (.aload_n 0, 1) := dk_42 (dk_at dksJ7_isLatin1_0 6 rfl rfl)
theorem dJ7_isLatin1_7 : decode cJ7_isLatin1 7 = .ok (.getfield 22, 3) := dk_180 0 22 (dk_at dksJ7_isLatin1_0 7 rfl rfl)
theorem dJ7_isLatin1_10 : decode cJ7_isLatin1 10 = .ok (.ifCond .ne 7, 3) := dk_154 0 7 (dk_at dksJ7_isLatin1_0 10 rfl rfl)
theorem dJ7_isLatin1_13 : decode cJ7_isLatin1 13 = .ok (.iconst 1, 1) := dk_4 (dk_at dksJ7_isLatin1_0 13 rfl rfl)
theorem dJ7_isLatin1_14 : decode cJ7_isLatin1 14 = .ok (.goto 4, 3) := dk_167 0 4 (dk_at dksJ7_isLatin1_0 14 rfl rfl)
theorem dJ7_isLatin1_17 : decode cJ7_isLatin1 17 = .ok (.iconst 0, 1) := dk_3 (dk_at dksJ7_isLatin1_0 17 rfl rfl)
theorem dJ7_isLatin1_18 : decode cJ7_isLatin1 18 = .ok (.ireturn, 1) := dk_172 (dk_at dksJ7_isLatin1_0 18 rfl rfl)
abbrev cJ7_putStringAt : ByteArray := prog_23_method_73_code
def yJ7_putStringAt : MethodName := ⟨RJ7, "putStringAt", "(ILjava/lang/String;)V"⟩
def dkwJ7_putStringAt_0 : List UInt8 := [42, 44, 182, 1, 141, 44, 42, 180, 0, 15, 27, 42, 180, 0, 22, 182, 1, 143, 177]
abbrev dktJ7_putStringAt_0 : List UInt8 := dkwJ7_putStringAt_0 ++ []
theorem dksJ7_putStringAt_0 : cJ7_putStringAt.data.toList.drop 0 = dktJ7_putStringAt_0 := by decide +kernel
theorem dJ7_putStringAt_0 : decode cJ7_putStringAt 0 = .ok (.aload_n 0, 1) := dk_42 (dk_at dksJ7_putStringAt_0 0 rfl rfl)
theorem dJ7_putStringAt_1 : decode cJ7_putStringAt 1 = .ok (.aload_n 2, 1) := dk_44 (dk_at dksJ7_putStringAt_0 1 rfl rfl)
theorem dJ7_putStringAt_2 : decode cJ7_putStringAt 2 = .ok (.invokevirtual 397, 3) := dk_182 1 141 (dk_at dksJ7_putStringAt_0 2 rfl rfl)
theorem dJ7_putStringAt_5 : decode cJ7_putStringAt 5 = .ok (.aload_n 2, 1) := dk_44 (dk_at dksJ7_putStringAt_0 5 rfl rfl)
theorem dJ7_putStringAt_6 : decode cJ7_putStringAt 6 = .ok (.aload_n 0, 1) := dk_42 (dk_at dksJ7_putStringAt_0 6 rfl rfl)
theorem dJ7_putStringAt_7 : decode cJ7_putStringAt 7 = .ok (.getfield 15, 3) := dk_180 0 15 (dk_at dksJ7_putStringAt_0 7 rfl rfl)
theorem dJ7_putStringAt_10 : decode cJ7_putStringAt 10 = .ok (.iload_n 1, 1) := dk_27 (dk_at dksJ7_putStringAt_0 10 rfl rfl)
theorem dJ7_putStringAt_11 : decode cJ7_putStringAt 11 = .ok (.aload_n 0, 1) := dk_42 (dk_at dksJ7_putStringAt_0 11 rfl rfl)
theorem dJ7_putStringAt_12 : decode cJ7_putStringAt 12 = .ok (.getfield 22, 3) := dk_180 0 22 (dk_at dksJ7_putStringAt_0 12 rfl rfl)
theorem dJ7_putStringAt_15 : decode cJ7_putStringAt 15 = .ok (.invokevirtual 399, 3) := dk_182 1 143 (dk_at dksJ7_putStringAt_0 15 rfl rfl)
theorem dJ7_putStringAt_18 : decode cJ7_putStringAt 18 = .ok (.return_, 1) := dk_177 (dk_at dksJ7_putStringAt_0 18 rfl rfl)
abbrev cJ7_inflateIfNeededFor : ByteArray := prog_23_method_71_code
def yJ7_inflateIfNeededFor : MethodName := ⟨RJ7, "inflateIfNeededFor", "(Ljava/lang/String;)V"⟩
def dkwJ7_inflateIfNeededFor_0 : List UInt8 := [178, 0, 18, 153, 0, 18, 42, 180, 0, 22, 43, 182, 0, 40, 159, 0, 7, 42, 182, 0, 195, 177]
abbrev dktJ7_inflateIfNeededFor_0 : List UInt8 := dkwJ7_inflateIfNeededFor_0 ++ []
theorem dksJ7_inflateIfNeededFor_0 : cJ7_inflateIfNeededFor.data.toList.drop 0 = dktJ7_inflateIfNeededFor_0 := by decide +kernel
theorem dJ7_inflateIfNeededFor_0 : decode cJ7_inflateIfNeededFor 0 = .ok (.getstatic 18, 3) := dk_178 0 18 (dk_at dksJ7_inflateIfNeededFor_0 0 rfl rfl)
theorem dJ7_inflateIfNeededFor_3 : decode cJ7_inflateIfNeededFor 3 = .ok (.ifCond .eq 18, 3) := dk_153 0 18 (dk_at dksJ7_inflateIfNeededFor_0 3 rfl rfl)
theorem dJ7_inflateIfNeededFor_6 : decode cJ7_inflateIfNeededFor 6 = .ok (.aload_n 0, 1) := dk_42 (dk_at dksJ7_inflateIfNeededFor_0 6 rfl rfl)
theorem dJ7_inflateIfNeededFor_7 : decode cJ7_inflateIfNeededFor 7 = .ok (.getfield 22, 3) := dk_180 0 22 (dk_at dksJ7_inflateIfNeededFor_0 7 rfl rfl)
theorem dJ7_inflateIfNeededFor_10 : decode cJ7_inflateIfNeededFor 10 = .ok (.aload_n 1, 1) := dk_43 (dk_at dksJ7_inflateIfNeededFor_0 10 rfl rfl)
theorem dJ7_inflateIfNeededFor_11 : decode cJ7_inflateIfNeededFor 11 = .ok (.invokevirtual 40, 3) := dk_182 0 40 (dk_at dksJ7_inflateIfNeededFor_0 11 rfl rfl)
theorem dJ7_inflateIfNeededFor_14 : decode cJ7_inflateIfNeededFor 14 = .ok (.if_icmp .eq 7, 3) := dk_159 0 7 (dk_at dksJ7_inflateIfNeededFor_0 14 rfl rfl)
theorem dJ7_inflateIfNeededFor_17 : decode cJ7_inflateIfNeededFor 17 = .ok (.aload_n 0, 1) := dk_42 (dk_at dksJ7_inflateIfNeededFor_0 17 rfl rfl)
theorem dJ7_inflateIfNeededFor_18 : decode cJ7_inflateIfNeededFor 18 = .ok (.invokevirtual 195, 3) := dk_182 0 195 (dk_at dksJ7_inflateIfNeededFor_0 18 rfl rfl)
theorem dJ7_inflateIfNeededFor_21 : decode cJ7_inflateIfNeededFor 21 = .ok (.return_, 1) := dk_177 (dk_at dksJ7_inflateIfNeededFor_0 21 rfl rfl)
abbrev cJ7_inflate : ByteArray := prog_23_method_11_code
def yJ7_inflate : MethodName := ⟨RJ7, "inflate", "()V"⟩
def dkwJ7_inflate_1 : List UInt8 := [42, 180, 0, 79, 184, 0, 125, 42, 43, 181, 0, 15, 42, 4, 181, 0, 22, 177]
abbrev dktJ7_inflate_1 : List UInt8 := dkwJ7_inflate_1 ++ []
def dkwJ7_inflate_0 : List UInt8 := [42, 182, 0, 83, 154, 0, 4, 177, 42, 180, 0, 15, 190, 184, 0, 26, 76, 42, 180, 0, 15, 3, 43, 3]
abbrev dktJ7_inflate_0 : List UInt8 := dkwJ7_inflate_0 ++ dktJ7_inflate_1
theorem dksJ7_inflate_0 : cJ7_inflate.data.toList.drop 0 = dktJ7_inflate_0 := by decide +kernel
theorem dksJ7_inflate_1 : cJ7_inflate.data.toList.drop 24 = dktJ7_inflate_1 := dk_seg dksJ7_inflate_0 24 rfl rfl
theorem dJ7_inflate_0 : decode cJ7_inflate 0 = .ok (.aload_n 0, 1) := dk_42 (dk_at dksJ7_inflate_0 0 rfl rfl)
theorem dJ7_inflate_1 : decode cJ7_inflate 1 = .ok (.invokevirtual 83, 3) := dk_182 0 83 (dk_at dksJ7_inflate_0 1 rfl rfl)
theorem dJ7_inflate_4 : decode cJ7_inflate 4 = .ok (.ifCond .ne 4, 3) := dk_154 0 4 (dk_at dksJ7_inflate_0 4 rfl rfl)
theorem dJ7_inflate_7 : decode cJ7_inflate 7 = .ok (.return_, 1) := dk_177 (dk_at dksJ7_inflate_0 7 rfl rfl)
theorem dJ7_inflate_8 : decode cJ7_inflate 8 = .ok (.aload_n 0, 1) := dk_42 (dk_at dksJ7_inflate_0 8 rfl rfl)
theorem dJ7_inflate_9 : decode cJ7_inflate 9 = .ok (.getfield 15, 3) := dk_180 0 15 (dk_at dksJ7_inflate_0 9 rfl rfl)
theorem dJ7_inflate_12 : decode cJ7_inflate 12 = .ok (.arraylength, 1) := dk_190 (dk_at dksJ7_inflate_0 12 rfl rfl)
theorem dJ7_inflate_13 : decode cJ7_inflate 13 = .ok (.invokestatic 26, 3) := dk_184 0 26 (dk_at dksJ7_inflate_0 13 rfl rfl)
theorem dJ7_inflate_16 : decode cJ7_inflate 16 = .ok (.astore_n 1, 1) := dk_76 (dk_at dksJ7_inflate_0 16 rfl rfl)
theorem dJ7_inflate_17 : decode cJ7_inflate 17 = .ok (.aload_n 0, 1) := dk_42 (dk_at dksJ7_inflate_0 17 rfl rfl)
theorem dJ7_inflate_18 : decode cJ7_inflate 18 = .ok (.getfield 15, 3) := dk_180 0 15 (dk_at dksJ7_inflate_0 18 rfl rfl)
theorem dJ7_inflate_21 : decode cJ7_inflate 21 = .ok (.iconst 0, 1) := dk_3 (dk_at dksJ7_inflate_0 21 rfl rfl)
theorem dJ7_inflate_22 : decode cJ7_inflate 22 = .ok (.aload_n 1, 1) := dk_43 (dk_at dksJ7_inflate_0 22 rfl rfl)
theorem dJ7_inflate_23 : decode cJ7_inflate 23 = .ok (.iconst 0, 1) := dk_3 (dk_at dksJ7_inflate_0 23 rfl rfl)
theorem dJ7_inflate_24 : decode cJ7_inflate 24 = .ok (.aload_n 0, 1) := dk_42 (dk_at dksJ7_inflate_1 0 rfl rfl)
theorem dJ7_inflate_25 : decode cJ7_inflate 25 = .ok (.getfield 79, 3) := dk_180 0 79 (dk_at dksJ7_inflate_1 1 rfl rfl)
theorem dJ7_inflate_28 : decode cJ7_inflate 28 = .ok (.invokestatic 125, 3) := dk_184 0 125 (dk_at dksJ7_inflate_1 4 rfl rfl)
theorem dJ7_inflate_31 : decode cJ7_inflate 31 = .ok (.aload_n 0, 1) := dk_42 (dk_at dksJ7_inflate_1 7 rfl rfl)
theorem dJ7_inflate_32 : decode cJ7_inflate 32 = .ok (.aload_n 1, 1) := dk_43 (dk_at dksJ7_inflate_1 8 rfl rfl)
theorem dJ7_inflate_33 : decode cJ7_inflate 33 = .ok (.putfield 15, 3) := dk_181 0 15 (dk_at dksJ7_inflate_1 9 rfl rfl)
theorem dJ7_inflate_36 : decode cJ7_inflate 36 = .ok (.aload_n 0, 1) := dk_42 (dk_at dksJ7_inflate_1 12 rfl rfl)
theorem dJ7_inflate_37 : decode cJ7_inflate 37 = .ok (.iconst 1, 1) := dk_4 (dk_at dksJ7_inflate_1 13 rfl rfl)
theorem dJ7_inflate_38 : decode cJ7_inflate 38 = .ok (.putfield 22, 3) := dk_181 0 22 (dk_at dksJ7_inflate_1 14 rfl rfl)
theorem dJ7_inflate_41 : decode cJ7_inflate 41 = .ok (.return_, 1) := dk_177 (dk_at dksJ7_inflate_1 17 rfl rfl)
abbrev cJ7_append_2 : ByteArray := prog_23_method_32_code
def yJ7_append_2 : MethodName := ⟨RJ7, "append", "(I)Ljava/lang/AbstractStringBuilder;"⟩
def dkwJ7_append_2_2 : List UInt8 := [42, 29, 181, 0, 79, 42, 176]
abbrev dktJ7_append_2_2 : List UInt8 := dkwJ7_append_2_2 ++ []
def dkwJ7_append_2_1 : List UInt8 := [27, 29, 42, 180, 0, 15, 184, 0, 248, 87, 167, 0, 14, 27, 28, 29, 42, 180, 0, 15, 184, 0, 251, 87]
abbrev dktJ7_append_2_1 : List UInt8 := dkwJ7_append_2_1 ++ dktJ7_append_2_2
def dkwJ7_append_2_0 : List UInt8 := [42, 180, 0, 79, 61, 28, 27, 184, 0, 245, 96, 62, 42, 29, 182, 0, 100, 42, 182, 0, 83, 153, 0, 16]
abbrev dktJ7_append_2_0 : List UInt8 := dkwJ7_append_2_0 ++ dktJ7_append_2_1
theorem dksJ7_append_2_0 : cJ7_append_2.data.toList.drop 0 = dktJ7_append_2_0 := by decide +kernel
theorem dksJ7_append_2_1 : cJ7_append_2.data.toList.drop 24 = dktJ7_append_2_1 := dk_seg dksJ7_append_2_0 24 rfl rfl
theorem dksJ7_append_2_2 : cJ7_append_2.data.toList.drop 48 = dktJ7_append_2_2 := dk_seg dksJ7_append_2_1 24 rfl rfl
theorem dJ7_append_2_0 : decode cJ7_append_2 0 = .ok (.aload_n 0, 1) := dk_42 (dk_at dksJ7_append_2_0 0 rfl rfl)
theorem dJ7_append_2_1 : decode cJ7_append_2 1 = .ok (.getfield 79, 3) := dk_180 0 79 (dk_at dksJ7_append_2_0 1 rfl rfl)
theorem dJ7_append_2_4 : decode cJ7_append_2 4 = .ok (.istore_n 2, 1) := dk_61 (dk_at dksJ7_append_2_0 4 rfl rfl)
theorem dJ7_append_2_5 : decode cJ7_append_2 5 = .ok (.iload_n 2, 1) := dk_28 (dk_at dksJ7_append_2_0 5 rfl rfl)
theorem dJ7_append_2_6 : decode cJ7_append_2 6 = .ok (.iload_n 1, 1) := dk_27 (dk_at dksJ7_append_2_0 6 rfl rfl)
theorem dJ7_append_2_7 : decode cJ7_append_2 7 = .ok (.invokestatic 245, 3) := dk_184 0 245 (dk_at dksJ7_append_2_0 7 rfl rfl)
theorem dJ7_append_2_10 : decode cJ7_append_2 10 = .ok (.iadd, 1) := dk_96 (dk_at dksJ7_append_2_0 10 rfl rfl)
theorem dJ7_append_2_11 : decode cJ7_append_2 11 = .ok (.istore_n 3, 1) := dk_62 (dk_at dksJ7_append_2_0 11 rfl rfl)
theorem dJ7_append_2_12 : decode cJ7_append_2 12 = .ok (.aload_n 0, 1) := dk_42 (dk_at dksJ7_append_2_0 12 rfl rfl)
theorem dJ7_append_2_13 : decode cJ7_append_2 13 = .ok (.iload_n 3, 1) := dk_29 (dk_at dksJ7_append_2_0 13 rfl rfl)
theorem dJ7_append_2_14 : decode cJ7_append_2 14 = .ok (.invokevirtual 100, 3) := dk_182 0 100 (dk_at dksJ7_append_2_0 14 rfl rfl)
theorem dJ7_append_2_17 : decode cJ7_append_2 17 = .ok (.aload_n 0, 1) := dk_42 (dk_at dksJ7_append_2_0 17 rfl rfl)
theorem dJ7_append_2_18 : decode cJ7_append_2 18 = .ok (.invokevirtual 83, 3) := dk_182 0 83 (dk_at dksJ7_append_2_0 18 rfl rfl)
theorem dJ7_append_2_21 : decode cJ7_append_2 21 = .ok (.ifCond .eq 16, 3) := dk_153 0 16 (dk_at dksJ7_append_2_0 21 rfl rfl)
theorem dJ7_append_2_24 : decode cJ7_append_2 24 = .ok (.iload_n 1, 1) := dk_27 (dk_at dksJ7_append_2_1 0 rfl rfl)
theorem dJ7_append_2_25 : decode cJ7_append_2 25 = .ok (.iload_n 3, 1) := dk_29 (dk_at dksJ7_append_2_1 1 rfl rfl)
theorem dJ7_append_2_26 : decode cJ7_append_2 26 = .ok (.aload_n 0, 1) := dk_42 (dk_at dksJ7_append_2_1 2 rfl rfl)
theorem dJ7_append_2_27 : decode cJ7_append_2 27 = .ok (.getfield 15, 3) := dk_180 0 15 (dk_at dksJ7_append_2_1 3 rfl rfl)
theorem dJ7_append_2_30 : decode cJ7_append_2 30 = .ok (.invokestatic 248, 3) := dk_184 0 248 (dk_at dksJ7_append_2_1 6 rfl rfl)
theorem dJ7_append_2_33 : decode cJ7_append_2 33 = .ok (.pop, 1) := dk_87 (dk_at dksJ7_append_2_1 9 rfl rfl)
theorem dJ7_append_2_34 : decode cJ7_append_2 34 = .ok (.goto 14, 3) := dk_167 0 14 (dk_at dksJ7_append_2_1 10 rfl rfl)
theorem dJ7_append_2_37 : decode cJ7_append_2 37 = .ok (.iload_n 1, 1) := dk_27 (dk_at dksJ7_append_2_1 13 rfl rfl)
theorem dJ7_append_2_38 : decode cJ7_append_2 38 = .ok (.iload_n 2, 1) := dk_28 (dk_at dksJ7_append_2_1 14 rfl rfl)
theorem dJ7_append_2_39 : decode cJ7_append_2 39 = .ok (.iload_n 3, 1) := dk_29 (dk_at dksJ7_append_2_1 15 rfl rfl)
theorem dJ7_append_2_40 : decode cJ7_append_2 40 = .ok (.aload_n 0, 1) := dk_42 (dk_at dksJ7_append_2_1 16 rfl rfl)
theorem dJ7_append_2_41 : decode cJ7_append_2 41 = .ok (.getfield 15, 3) := dk_180 0 15 (dk_at dksJ7_append_2_1 17 rfl rfl)
theorem dJ7_append_2_44 : decode cJ7_append_2 44 = .ok (.invokestatic 251, 3) := dk_184 0 251 (dk_at dksJ7_append_2_1 20 rfl rfl)
theorem dJ7_append_2_47 : decode cJ7_append_2 47 = .ok (.pop, 1) := dk_87 (dk_at dksJ7_append_2_1 23 rfl rfl)
theorem dJ7_append_2_48 : decode cJ7_append_2 48 = .ok (.aload_n 0, 1) := dk_42 (dk_at dksJ7_append_2_2 0 rfl rfl)
theorem dJ7_append_2_49 : decode cJ7_append_2 49 = .ok (.iload_n 3, 1) := dk_29 (dk_at dksJ7_append_2_2 1 rfl rfl)
theorem dJ7_append_2_50 : decode cJ7_append_2 50 = .ok (.putfield 79, 3) := dk_181 0 79 (dk_at dksJ7_append_2_2 2 rfl rfl)
theorem dJ7_append_2_53 : decode cJ7_append_2 53 = .ok (.aload_n 0, 1) := dk_42 (dk_at dksJ7_append_2_2 5 rfl rfl)
theorem dJ7_append_2_54 : decode cJ7_append_2 54 = .ok (.areturn, 1) := dk_176 (dk_at dksJ7_append_2_2 6 rfl rfl)
abbrev cJ7_getValue : ByteArray := prog_23_method_64_code
def yJ7_getValue : MethodName := ⟨RJ7, "getValue", "()[B"⟩
theorem dJ7_getValue_0 : decode cJ7_getValue 0 = .ok (.aload_n 0, 1) := by decide +kernel
theorem dJ7_getValue_1 : decode cJ7_getValue 1 = .ok (.getfield 15, 3) := by decide +kernel
theorem dJ7_getValue_4 : decode cJ7_getValue 4 = .ok (.areturn, 1) := by decide +kernel
abbrev cJ7_length : ByteArray := prog_23_method_6_code
def yJ7_length : MethodName := ⟨RJ7, "length", "()I"⟩
theorem dJ7_length_0 : decode cJ7_length 0 = .ok (.aload_n 0, 1) := by decide +kernel
theorem dJ7_length_1 : decode cJ7_length 1 = .ok (.getfield 79, 3) := by decide +kernel
theorem dJ7_length_4 : decode cJ7_length 4 = .ok (.ireturn, 1) := by decide +kernel
abbrev cJ7_append_3 : ByteArray := prog_23_method_31_code
def yJ7_append_3 : MethodName := ⟨RJ7, "append", "(C)Ljava/lang/AbstractStringBuilder;"⟩
def dkwJ7_append_3_3 : List UInt8 := [181, 0, 79, 27, 184, 0, 197, 42, 176]
abbrev dktJ7_append_3_3 : List UInt8 := dkwJ7_append_3_3 ++ []
def dkwJ7_append_3_2 : List UInt8 := [182, 0, 83, 153, 0, 7, 42, 182, 0, 195, 42, 180, 0, 15, 42, 89, 180, 0, 79, 90, 4, 96]
abbrev dktJ7_append_3_2 : List UInt8 := dkwJ7_append_3_2 ++ dktJ7_append_3_3
def dkwJ7_append_3_1 : List UInt8 := [42, 180, 0, 15, 42, 89, 180, 0, 79, 90, 4, 96, 181, 0, 79, 27, 145, 84, 167, 0, 33, 42]
abbrev dktJ7_append_3_1 : List UInt8 := dkwJ7_append_3_1 ++ dktJ7_append_3_2
def dkwJ7_append_3_0 : List UInt8 := [42, 42, 180, 0, 79, 4, 96, 182, 0, 100, 42, 182, 0, 83, 153, 0, 31, 27, 184, 0, 191, 153, 0, 24]
abbrev dktJ7_append_3_0 : List UInt8 := dkwJ7_append_3_0 ++ dktJ7_append_3_1
theorem dksJ7_append_3_0 : cJ7_append_3.data.toList.drop 0 = dktJ7_append_3_0 := by decide +kernel
theorem dksJ7_append_3_1 : cJ7_append_3.data.toList.drop 24 = dktJ7_append_3_1 := dk_seg dksJ7_append_3_0 24 rfl rfl
theorem dksJ7_append_3_2 : cJ7_append_3.data.toList.drop 46 = dktJ7_append_3_2 := dk_seg dksJ7_append_3_1 22 rfl rfl
theorem dksJ7_append_3_3 : cJ7_append_3.data.toList.drop 68 = dktJ7_append_3_3 := dk_seg dksJ7_append_3_2 22 rfl rfl
theorem dJ7_append_3_0 : decode cJ7_append_3 0 = .ok (.aload_n 0, 1) := dk_42 (dk_at dksJ7_append_3_0 0 rfl rfl)
theorem dJ7_append_3_1 : decode cJ7_append_3 1 = .ok (.aload_n 0, 1) := dk_42 (dk_at dksJ7_append_3_0 1 rfl rfl)
theorem dJ7_append_3_2 : decode cJ7_append_3 2 = .ok (.getfield 79, 3) := dk_180 0 79 (dk_at dksJ7_append_3_0 2 rfl rfl)
theorem dJ7_append_3_5 : decode cJ7_append_3 5 = .ok (.iconst 1, 1) := dk_4 (dk_at dksJ7_append_3_0 5 rfl rfl)
theorem dJ7_append_3_6 : decode cJ7_append_3 6 = .ok (.iadd, 1) := dk_96 (dk_at dksJ7_append_3_0 6 rfl rfl)
theorem dJ7_append_3_7 : decode cJ7_append_3 7 = .ok (.invokevirtual 100, 3) := dk_182 0 100 (dk_at dksJ7_append_3_0 7 rfl rfl)
theorem dJ7_append_3_10 : decode cJ7_append_3 10 = .ok (.aload_n 0, 1) := dk_42 (dk_at dksJ7_append_3_0 10 rfl rfl)
theorem dJ7_append_3_11 : decode cJ7_append_3 11 = .ok (.invokevirtual 83, 3) := dk_182 0 83 (dk_at dksJ7_append_3_0 11 rfl rfl)
theorem dJ7_append_3_14 : decode cJ7_append_3 14 = .ok (.ifCond .eq 31, 3) := dk_153 0 31 (dk_at dksJ7_append_3_0 14 rfl rfl)
theorem dJ7_append_3_17 : decode cJ7_append_3 17 = .ok (.iload_n 1, 1) := dk_27 (dk_at dksJ7_append_3_0 17 rfl rfl)
theorem dJ7_append_3_18 : decode cJ7_append_3 18 = .ok (.invokestatic 191, 3) := dk_184 0 191 (dk_at dksJ7_append_3_0 18 rfl rfl)
theorem dJ7_append_3_21 : decode cJ7_append_3 21 = .ok (.ifCond .eq 24, 3) := dk_153 0 24 (dk_at dksJ7_append_3_0 21 rfl rfl)
theorem dJ7_append_3_24 : decode cJ7_append_3 24 = .ok (.aload_n 0, 1) := dk_42 (dk_at dksJ7_append_3_1 0 rfl rfl)
theorem dJ7_append_3_25 : decode cJ7_append_3 25 = .ok (.getfield 15, 3) := dk_180 0 15 (dk_at dksJ7_append_3_1 1 rfl rfl)
theorem dJ7_append_3_28 : decode cJ7_append_3 28 = .ok (.aload_n 0, 1) := dk_42 (dk_at dksJ7_append_3_1 4 rfl rfl)
theorem dJ7_append_3_29 : decode cJ7_append_3 29 = .ok (.dup, 1) := dk_89 (dk_at dksJ7_append_3_1 5 rfl rfl)
theorem dJ7_append_3_30 : decode cJ7_append_3 30 = .ok (.getfield 79, 3) := dk_180 0 79 (dk_at dksJ7_append_3_1 6 rfl rfl)
theorem dJ7_append_3_33 : decode cJ7_append_3 33 = .ok (.dup_x1, 1) := dk_90 (dk_at dksJ7_append_3_1 9 rfl rfl)
theorem dJ7_append_3_34 : decode cJ7_append_3 34 = .ok (.iconst 1, 1) := dk_4 (dk_at dksJ7_append_3_1 10 rfl rfl)
theorem dJ7_append_3_35 : decode cJ7_append_3 35 = .ok (.iadd, 1) := dk_96 (dk_at dksJ7_append_3_1 11 rfl rfl)
theorem dJ7_append_3_36 : decode cJ7_append_3 36 = .ok (.putfield 79, 3) := dk_181 0 79 (dk_at dksJ7_append_3_1 12 rfl rfl)
theorem dJ7_append_3_39 : decode cJ7_append_3 39 = .ok (.iload_n 1, 1) := dk_27 (dk_at dksJ7_append_3_1 15 rfl rfl)
theorem dJ7_append_3_40 : decode cJ7_append_3 40 = .ok (.i2b, 1) := dk_145 (dk_at dksJ7_append_3_1 16 rfl rfl)
theorem dJ7_append_3_41 : decode cJ7_append_3 41 = .ok (.bastore, 1) := dk_84 (dk_at dksJ7_append_3_1 17 rfl rfl)
theorem dJ7_append_3_42 : decode cJ7_append_3 42 = .ok (.goto 33, 3) := dk_167 0 33 (dk_at dksJ7_append_3_1 18 rfl rfl)
theorem dJ7_append_3_45 : decode cJ7_append_3 45 = .ok (.aload_n 0, 1) := dk_42 (dk_at dksJ7_append_3_1 21 rfl rfl)
theorem dJ7_append_3_46 : decode cJ7_append_3 46 = .ok (.invokevirtual 83, 3) := dk_182 0 83 (dk_at dksJ7_append_3_2 0 rfl rfl)
theorem dJ7_append_3_49 : decode cJ7_append_3 49 = .ok (.ifCond .eq 7, 3) := dk_153 0 7 (dk_at dksJ7_append_3_2 3 rfl rfl)
theorem dJ7_append_3_52 : decode cJ7_append_3 52 = .ok (.aload_n 0, 1) := dk_42 (dk_at dksJ7_append_3_2 6 rfl rfl)
theorem dJ7_append_3_53 : decode cJ7_append_3 53 = .ok (.invokevirtual 195, 3) := dk_182 0 195 (dk_at dksJ7_append_3_2 7 rfl rfl)
theorem dJ7_append_3_56 : decode cJ7_append_3 56 = .ok (.aload_n 0, 1) := dk_42 (dk_at dksJ7_append_3_2 10 rfl rfl)
theorem dJ7_append_3_57 : decode cJ7_append_3 57 = .ok (.getfield 15, 3) := dk_180 0 15 (dk_at dksJ7_append_3_2 11 rfl rfl)
theorem dJ7_append_3_60 : decode cJ7_append_3 60 = .ok (.aload_n 0, 1) := dk_42 (dk_at dksJ7_append_3_2 14 rfl rfl)
theorem dJ7_append_3_61 : decode cJ7_append_3 61 = .ok (.dup, 1) := dk_89 (dk_at dksJ7_append_3_2 15 rfl rfl)
theorem dJ7_append_3_62 : decode cJ7_append_3 62 = .ok (.getfield 79, 3) := dk_180 0 79 (dk_at dksJ7_append_3_2 16 rfl rfl)
theorem dJ7_append_3_65 : decode cJ7_append_3 65 = .ok (.dup_x1, 1) := dk_90 (dk_at dksJ7_append_3_2 19 rfl rfl)
theorem dJ7_append_3_66 : decode cJ7_append_3 66 = .ok (.iconst 1, 1) := dk_4 (dk_at dksJ7_append_3_2 20 rfl rfl)
theorem dJ7_append_3_67 : decode cJ7_append_3 67 = .ok (.iadd, 1) := dk_96 (dk_at dksJ7_append_3_2 21 rfl rfl)
theorem dJ7_append_3_68 : decode cJ7_append_3 68 = .ok (.putfield 79, 3) := dk_181 0 79 (dk_at dksJ7_append_3_3 0 rfl rfl)
theorem dJ7_append_3_71 : decode cJ7_append_3 71 = .ok (.iload_n 1, 1) := dk_27 (dk_at dksJ7_append_3_3 3 rfl rfl)
theorem dJ7_append_3_72 : decode cJ7_append_3 72 = .ok (.invokestatic 197, 3) := dk_184 0 197 (dk_at dksJ7_append_3_3 4 rfl rfl)
theorem dJ7_append_3_75 : decode cJ7_append_3 75 = .ok (.aload_n 0, 1) := dk_42 (dk_at dksJ7_append_3_3 7 rfl rfl)
theorem dJ7_append_3_76 : decode cJ7_append_3 76 = .ok (.areturn, 1) := dk_176 (dk_at dksJ7_append_3_3 8 rfl rfl)
theorem q95 : (Jvm.Cond.initialized "java/lang/AbstractStringBuilder") ∈ lw_all := lw_g (lw_at lw_m1 10 rfl) rfl
theorem q205 : (Jvm.Cond.instanceMethod ({ cls := "java/lang/AbstractStringBuilder", name := "<init>", desc := "(I)V" } : Jvm.MethodName)) ∈ lw_all := lw_g (lw_at lw_m1 120 rfl) rfl
theorem q206 : (Jvm.Cond.code ({ cls := "java/lang/AbstractStringBuilder", name := "<init>", desc := "(I)V" } : Jvm.MethodName) prog_23_method_2_code (2 : Nat) (Option.none : Option Jvm.ClassFile.FieldType)) ∈ lw_all := lw_g (lw_at lw_m1 121 rfl) rfl
theorem q207 : (Jvm.Cond.methodLink "java/lang/AbstractStringBuilder" (3 : Nat) ({ cls := "java/lang/Object", name := "<init>", desc := "()V" } : Jvm.MethodName)) ∈ lw_all := lw_g (lw_at lw_m1 122 rfl) rfl
theorem q208 : (Jvm.Cond.fieldLink "java/lang/AbstractStringBuilder" (18 : Nat) "java/lang/String" "COMPACT_STRINGS" "Z") ∈ lw_all := lw_g (lw_at lw_m1 123 rfl) rfl
theorem q210 : (Jvm.Cond.methodLink "java/lang/AbstractStringBuilder" (26 : Nat) ({ cls := "java/lang/StringUTF16", name := "newBytesFor", desc := "(I)[B" } : Jvm.MethodName)) ∈ lw_all := lw_g (lw_at lw_m1 125 rfl) rfl
theorem q217 : (Jvm.Cond.fieldLink "java/lang/AbstractStringBuilder" (15 : Nat) "java/lang/AbstractStringBuilder" "value" "[B") ∈ lw_all := lw_g (lw_at lw_m1 132 rfl) rfl
theorem q218 : (Jvm.Cond.fieldLink "java/lang/AbstractStringBuilder" (22 : Nat) "java/lang/AbstractStringBuilder" "coder" "B") ∈ lw_all := lw_g (lw_at lw_m1 133 rfl) rfl
theorem q220 : (Jvm.Cond.fieldLink "java/lang/AbstractStringBuilder" (79 : Nat) "java/lang/AbstractStringBuilder" "count" "I") ∈ lw_all := lw_g (lw_at lw_m1 135 rfl) rfl
theorem q222 : (Jvm.Cond.soleField "java/lang/AbstractStringBuilder" "value") ∈ lw_all := lw_g (lw_at lw_m1 137 rfl) rfl
theorem q224 : (Jvm.Cond.soleField "java/lang/AbstractStringBuilder" "coder") ∈ lw_all := lw_g (lw_at lw_m1 139 rfl) rfl
theorem q226 : (Jvm.Cond.soleField "java/lang/AbstractStringBuilder" "maybeLatin1") ∈ lw_all := lw_g (lw_at lw_m1 141 rfl) rfl
theorem q228 : (Jvm.Cond.soleField "java/lang/AbstractStringBuilder" "count") ∈ lw_all := lw_g (lw_at lw_m1 143 rfl) rfl
theorem q237 : (Jvm.Cond.instanceMethod ({ cls := "java/lang/AbstractStringBuilder", name := "append", desc := "(Ljava/lang/String;)Ljava/lang/AbstractStringBuilder;" } : Jvm.MethodName)) ∈ lw_all := lw_g (lw_at lw_m1 152 rfl) rfl
theorem q238 : (Jvm.Cond.code ({ cls := "java/lang/AbstractStringBuilder", name := "append", desc := "(Ljava/lang/String;)Ljava/lang/AbstractStringBuilder;" } : Jvm.MethodName) prog_23_method_22_code (3 : Nat) (Option.some (Jvm.ClassFile.FieldType.object "java/lang/AbstractStringBuilder"))) ∈ lw_all := lw_g (lw_at lw_m1 153 rfl) rfl
theorem q239 : (Jvm.Cond.methodLink "java/lang/AbstractStringBuilder" (204 : Nat) ({ cls := "java/lang/AbstractStringBuilder", name := "appendNull", desc := "()Ljava/lang/AbstractStringBuilder;" } : Jvm.MethodName)) ∈ lw_all := lw_g (lw_at lw_m1 154 rfl) rfl
theorem q240 : (Jvm.Cond.privateMethod ({ cls := "java/lang/AbstractStringBuilder", name := "appendNull", desc := "()Ljava/lang/AbstractStringBuilder;" } : Jvm.MethodName)) ∈ lw_tbl := lw_at lw_m1 155 rfl
theorem q241 : (Jvm.Cond.instanceMethod ({ cls := "java/lang/AbstractStringBuilder", name := "appendNull", desc := "()Ljava/lang/AbstractStringBuilder;" } : Jvm.MethodName)) ∈ lw_all := lw_g (lw_at lw_m1 156 rfl) rfl
theorem q242 : (Jvm.Cond.code ({ cls := "java/lang/AbstractStringBuilder", name := "appendNull", desc := "()Ljava/lang/AbstractStringBuilder;" } : Jvm.MethodName) prog_23_method_26_code (3 : Nat) (Option.some (Jvm.ClassFile.FieldType.object "java/lang/AbstractStringBuilder"))) ∈ lw_all := lw_g (lw_at lw_m1 157 rfl) rfl
theorem q243 : (Jvm.Cond.methodLink "java/lang/AbstractStringBuilder" (100 : Nat) ({ cls := "java/lang/AbstractStringBuilder", name := "ensureCapacityInternal", desc := "(I)V" } : Jvm.MethodName)) ∈ lw_all := lw_g (lw_at lw_m1 158 rfl) rfl
theorem q244 : (Jvm.Cond.privateMethod ({ cls := "java/lang/AbstractStringBuilder", name := "ensureCapacityInternal", desc := "(I)V" } : Jvm.MethodName)) ∈ lw_tbl := lw_at lw_m1 159 rfl
theorem q245 : (Jvm.Cond.instanceMethod ({ cls := "java/lang/AbstractStringBuilder", name := "ensureCapacityInternal", desc := "(I)V" } : Jvm.MethodName)) ∈ lw_all := lw_g (lw_at lw_m1 160 rfl) rfl
theorem q246 : (Jvm.Cond.code ({ cls := "java/lang/AbstractStringBuilder", name := "ensureCapacityInternal", desc := "(I)V" } : Jvm.MethodName) prog_23_method_9_code (3 : Nat) (Option.none : Option Jvm.ClassFile.FieldType)) ∈ lw_all := lw_g (lw_at lw_m1 161 rfl) rfl
theorem q247 : (Jvm.Cond.methodLink "java/lang/AbstractStringBuilder" (104 : Nat) ({ cls := "java/lang/AbstractStringBuilder", name := "newCapacity", desc := "(I)I" } : Jvm.MethodName)) ∈ lw_all := lw_g (lw_at lw_m1 162 rfl) rfl
theorem q248 : (Jvm.Cond.privateMethod ({ cls := "java/lang/AbstractStringBuilder", name := "newCapacity", desc := "(I)I" } : Jvm.MethodName)) ∈ lw_tbl := lw_at lw_m1 163 rfl
theorem q249 : (Jvm.Cond.instanceMethod ({ cls := "java/lang/AbstractStringBuilder", name := "newCapacity", desc := "(I)I" } : Jvm.MethodName)) ∈ lw_all := lw_g (lw_at lw_m1 164 rfl) rfl
theorem q250 : (Jvm.Cond.code ({ cls := "java/lang/AbstractStringBuilder", name := "newCapacity", desc := "(I)I" } : Jvm.MethodName) prog_23_method_10_code (6 : Nat) (Option.some Jvm.ClassFile.FieldType.int)) ∈ lw_all := lw_g (lw_at lw_m1 165 rfl) rfl
theorem q251 : (Jvm.Cond.methodLink "java/lang/AbstractStringBuilder" (114 : Nat) ({ cls := "jdk/internal/util/ArraysSupport", name := "newLength", desc := "(III)I" } : Jvm.MethodName)) ∈ lw_all := lw_g (lw_at lw_m1 166 rfl) rfl
theorem q261 : (Jvm.Cond.constant "java/lang/AbstractStringBuilder" (39 : Nat) (2147483647 : Int32)) ∈ lw_all := lw_g (lw_at lw_m1 176 rfl) rfl
theorem q262 : (Jvm.Cond.methodLink "java/lang/AbstractStringBuilder" (108 : Nat) ({ cls := "java/util/Arrays", name := "copyOf", desc := "([BI)[B" } : Jvm.MethodName)) ∈ lw_all := lw_g (lw_at lw_m1 177 rfl) rfl
theorem q278 : (Jvm.Cond.methodLink "java/lang/AbstractStringBuilder" (83 : Nat) ({ cls := "java/lang/AbstractStringBuilder", name := "isLatin1", desc := "()Z" } : Jvm.MethodName)) ∈ lw_all := lw_g (lw_at lw_m1 193 rfl) rfl
theorem q279 : (Jvm.Cond.instanceMethod ({ cls := "java/lang/AbstractStringBuilder", name := "isLatin1", desc := "()Z" } : Jvm.MethodName)) ∈ lw_all := lw_g (lw_at lw_m1 194 rfl) rfl
theorem q280 : (Jvm.Cond.sameMethod "java/lang/AbstractStringBuilder" "java/lang/AbstractStringBuilder" "isLatin1" "()Z") ∈ lw_all := lw_g (lw_at lw_m1 195 rfl) rfl
theorem q282 : (Jvm.Cond.code ({ cls := "java/lang/AbstractStringBuilder", name := "isLatin1", desc := "()Z" } : Jvm.MethodName) prog_23_method_68_code (1 : Nat) (Option.some Jvm.ClassFile.FieldType.boolean)) ∈ lw_all := lw_g (lw_at lw_m1 197 rfl) rfl
theorem q283 : (Jvm.Cond.methodLink "java/lang/AbstractStringBuilder" (226 : Nat) ({ cls := "java/lang/StringUTF16", name := "putCharsAt", desc := "([BICCCC)I" } : Jvm.MethodName)) ∈ lw_all := lw_g (lw_at lw_m1 198 rfl) rfl
theorem q309 : (Jvm.Cond.methodLink "java/lang/AbstractStringBuilder" (32 : Nat) ({ cls := "java/lang/String", name := "length", desc := "()I" } : Jvm.MethodName)) ∈ lw_all := lw_g (lw_at lw_m1 224 rfl) rfl
theorem q318 : (Jvm.Cond.methodLink "java/lang/AbstractStringBuilder" (208 : Nat) ({ cls := "java/lang/AbstractStringBuilder", name := "putStringAt", desc := "(ILjava/lang/String;)V" } : Jvm.MethodName)) ∈ lw_all := lw_g (lw_at lw_m1 233 rfl) rfl
theorem q319 : (Jvm.Cond.privateMethod ({ cls := "java/lang/AbstractStringBuilder", name := "putStringAt", desc := "(ILjava/lang/String;)V" } : Jvm.MethodName)) ∈ lw_tbl := lw_at lw_m1 234 rfl
theorem q320 : (Jvm.Cond.instanceMethod ({ cls := "java/lang/AbstractStringBuilder", name := "putStringAt", desc := "(ILjava/lang/String;)V" } : Jvm.MethodName)) ∈ lw_all := lw_g (lw_at lw_m1 235 rfl) rfl
theorem q321 : (Jvm.Cond.code ({ cls := "java/lang/AbstractStringBuilder", name := "putStringAt", desc := "(ILjava/lang/String;)V" } : Jvm.MethodName) prog_23_method_73_code (3 : Nat) (Option.none : Option Jvm.ClassFile.FieldType)) ∈ lw_all := lw_g (lw_at lw_m1 236 rfl) rfl
theorem q322 : (Jvm.Cond.methodLink "java/lang/AbstractStringBuilder" (397 : Nat) ({ cls := "java/lang/AbstractStringBuilder", name := "inflateIfNeededFor", desc := "(Ljava/lang/String;)V" } : Jvm.MethodName)) ∈ lw_all := lw_g (lw_at lw_m1 237 rfl) rfl
theorem q323 : (Jvm.Cond.privateMethod ({ cls := "java/lang/AbstractStringBuilder", name := "inflateIfNeededFor", desc := "(Ljava/lang/String;)V" } : Jvm.MethodName)) ∈ lw_tbl := lw_at lw_m1 238 rfl
theorem q324 : (Jvm.Cond.instanceMethod ({ cls := "java/lang/AbstractStringBuilder", name := "inflateIfNeededFor", desc := "(Ljava/lang/String;)V" } : Jvm.MethodName)) ∈ lw_all := lw_g (lw_at lw_m1 239 rfl) rfl
theorem q325 : (Jvm.Cond.code ({ cls := "java/lang/AbstractStringBuilder", name := "inflateIfNeededFor", desc := "(Ljava/lang/String;)V" } : Jvm.MethodName) prog_23_method_71_code (2 : Nat) (Option.none : Option Jvm.ClassFile.FieldType)) ∈ lw_all := lw_g (lw_at lw_m2 0 rfl) rfl
theorem q326 : (Jvm.Cond.methodLink "java/lang/AbstractStringBuilder" (40 : Nat) ({ cls := "java/lang/String", name := "coder", desc := "()B" } : Jvm.MethodName)) ∈ lw_all := lw_g (lw_at lw_m2 1 rfl) rfl
theorem q327 : (Jvm.Cond.methodLink "java/lang/AbstractStringBuilder" (195 : Nat) ({ cls := "java/lang/AbstractStringBuilder", name := "inflate", desc := "()V" } : Jvm.MethodName)) ∈ lw_all := lw_g (lw_at lw_m2 2 rfl) rfl
theorem q328 : (Jvm.Cond.privateMethod ({ cls := "java/lang/AbstractStringBuilder", name := "inflate", desc := "()V" } : Jvm.MethodName)) ∈ lw_tbl := lw_at lw_m2 3 rfl
theorem q329 : (Jvm.Cond.instanceMethod ({ cls := "java/lang/AbstractStringBuilder", name := "inflate", desc := "()V" } : Jvm.MethodName)) ∈ lw_all := lw_g (lw_at lw_m2 4 rfl) rfl
theorem q330 : (Jvm.Cond.code ({ cls := "java/lang/AbstractStringBuilder", name := "inflate", desc := "()V" } : Jvm.MethodName) prog_23_method_11_code (2 : Nat) (Option.none : Option Jvm.ClassFile.FieldType)) ∈ lw_all := lw_g (lw_at lw_m2 5 rfl) rfl
theorem q331 : (Jvm.Cond.methodLink "java/lang/AbstractStringBuilder" (125 : Nat) ({ cls := "java/lang/StringLatin1", name := "inflate", desc := "([BI[BII)V" } : Jvm.MethodName)) ∈ lw_all := lw_g (lw_at lw_m2 6 rfl) rfl
theorem q346 : (Jvm.Cond.methodLink "java/lang/AbstractStringBuilder" (399 : Nat) ({ cls := "java/lang/String", name := "getBytes", desc := "([BIB)V" } : Jvm.MethodName)) ∈ lw_all := lw_g (lw_at lw_m2 21 rfl) rfl
theorem q357 : (Jvm.Cond.instanceMethod ({ cls := "java/lang/AbstractStringBuilder", name := "append", desc := "(I)Ljava/lang/AbstractStringBuilder;" } : Jvm.MethodName)) ∈ lw_all := lw_g (lw_at lw_m2 32 rfl) rfl
theorem q358 : (Jvm.Cond.code ({ cls := "java/lang/AbstractStringBuilder", name := "append", desc := "(I)Ljava/lang/AbstractStringBuilder;" } : Jvm.MethodName) prog_23_method_32_code (4 : Nat) (Option.some (Jvm.ClassFile.FieldType.object "java/lang/AbstractStringBuilder"))) ∈ lw_all := lw_g (lw_at lw_m2 33 rfl) rfl
theorem q359 : (Jvm.Cond.methodLink "java/lang/AbstractStringBuilder" (245 : Nat) ({ cls := "java/lang/Integer", name := "stringSize", desc := "(I)I" } : Jvm.MethodName)) ∈ lw_all := lw_g (lw_at lw_m2 34 rfl) rfl
theorem q362 : (Jvm.Cond.methodLink "java/lang/AbstractStringBuilder" (248 : Nat) ({ cls := "java/lang/Integer", name := "getChars", desc := "(II[B)I" } : Jvm.MethodName)) ∈ lw_all := lw_g (lw_at lw_m2 37 rfl) rfl
theorem q369 : (Jvm.Cond.methodLink "java/lang/AbstractStringBuilder" (251 : Nat) ({ cls := "java/lang/StringUTF16", name := "getChars", desc := "(III[B)I" } : Jvm.MethodName)) ∈ lw_all := lw_g (lw_at lw_m2 44 rfl) rfl
theorem q391 : (Jvm.Cond.instanceMethod ({ cls := "java/lang/AbstractStringBuilder", name := "getValue", desc := "()[B" } : Jvm.MethodName)) ∈ lw_all := lw_g (lw_at lw_m2 66 rfl) rfl
theorem q392 : (Jvm.Cond.sameMethod "java/lang/AbstractStringBuilder" "java/lang/AbstractStringBuilder" "getValue" "()[B") ∈ lw_all := lw_g (lw_at lw_m2 67 rfl) rfl
theorem q394 : (Jvm.Cond.code ({ cls := "java/lang/AbstractStringBuilder", name := "getValue", desc := "()[B" } : Jvm.MethodName) prog_23_method_64_code (1 : Nat) (Option.some (Jvm.ClassFile.FieldType.array Jvm.ClassFile.FieldType.byte))) ∈ lw_all := lw_g (lw_at lw_m2 69 rfl) rfl
theorem q396 : (Jvm.Cond.instanceMethod ({ cls := "java/lang/AbstractStringBuilder", name := "length", desc := "()I" } : Jvm.MethodName)) ∈ lw_all := lw_g (lw_at lw_m2 71 rfl) rfl
theorem q397 : (Jvm.Cond.sameMethod "java/lang/AbstractStringBuilder" "java/lang/AbstractStringBuilder" "length" "()I") ∈ lw_all := lw_g (lw_at lw_m2 72 rfl) rfl
theorem q402 : (Jvm.Cond.code ({ cls := "java/lang/AbstractStringBuilder", name := "length", desc := "()I" } : Jvm.MethodName) prog_23_method_6_code (1 : Nat) (Option.some Jvm.ClassFile.FieldType.int)) ∈ lw_all := lw_g (lw_at lw_m2 77 rfl) rfl
theorem q612 : (Jvm.Cond.instanceMethod ({ cls := "java/lang/AbstractStringBuilder", name := "append", desc := "(C)Ljava/lang/AbstractStringBuilder;" } : Jvm.MethodName)) ∈ lw_all := lw_g (lw_at lw_m3 47 rfl) rfl
theorem q613 : (Jvm.Cond.code ({ cls := "java/lang/AbstractStringBuilder", name := "append", desc := "(C)Ljava/lang/AbstractStringBuilder;" } : Jvm.MethodName) prog_23_method_31_code (2 : Nat) (Option.some (Jvm.ClassFile.FieldType.object "java/lang/AbstractStringBuilder"))) ∈ lw_all := lw_g (lw_at lw_m3 48 rfl) rfl
theorem q614 : (Jvm.Cond.methodLink "java/lang/AbstractStringBuilder" (191 : Nat) ({ cls := "java/lang/StringLatin1", name := "canEncode", desc := "(C)Z" } : Jvm.MethodName)) ∈ lw_all := lw_g (lw_at lw_m3 49 rfl) rfl
theorem q617 : (Jvm.Cond.methodLink "java/lang/AbstractStringBuilder" (197 : Nat) ({ cls := "java/lang/StringUTF16", name := "putCharSB", desc := "([BII)V" } : Jvm.MethodName)) ∈ lw_all := lw_g (lw_at lw_m3 52 rfl) rfl
theorem q2191 : (Jvm.Cond.sameMethod "java/lang/AbstractStringBuilder" "java/lang/AbstractStringBuilder" "append" "(Ljava/lang/String;)Ljava/lang/AbstractStringBuilder;") ∈ lw_all := lw_g (lw_at lw_m9 186 rfl) rfl
theorem q2192 : (Jvm.Cond.sameMethod "java/lang/AbstractStringBuilder" "java/lang/AbstractStringBuilder" "appendNull" "()Ljava/lang/AbstractStringBuilder;") ∈ lw_all := lw_g (lw_at lw_m9 187 rfl) rfl
theorem q2193 : (Jvm.Cond.sameMethod "java/lang/AbstractStringBuilder" "java/lang/AbstractStringBuilder" "ensureCapacityInternal" "(I)V") ∈ lw_all := lw_g (lw_at lw_m9 188 rfl) rfl
theorem q2194 : (Jvm.Cond.sameMethod "java/lang/AbstractStringBuilder" "java/lang/AbstractStringBuilder" "newCapacity" "(I)I") ∈ lw_all := lw_g (lw_at lw_m9 189 rfl) rfl
theorem q2195 : (Jvm.Cond.sameMethod "java/lang/AbstractStringBuilder" "java/lang/AbstractStringBuilder" "putStringAt" "(ILjava/lang/String;)V") ∈ lw_all := lw_g (lw_at lw_m9 190 rfl) rfl
theorem q2196 : (Jvm.Cond.sameMethod "java/lang/AbstractStringBuilder" "java/lang/AbstractStringBuilder" "inflateIfNeededFor" "(Ljava/lang/String;)V") ∈ lw_all := lw_g (lw_at lw_m9 191 rfl) rfl
theorem q2197 : (Jvm.Cond.sameMethod "java/lang/AbstractStringBuilder" "java/lang/AbstractStringBuilder" "inflate" "()V") ∈ lw_all := lw_g (lw_at lw_m9 192 rfl) rfl
theorem q2198 : (Jvm.Cond.sameMethod "java/lang/AbstractStringBuilder" "java/lang/AbstractStringBuilder" "append" "(I)Ljava/lang/AbstractStringBuilder;") ∈ lw_all := lw_g (lw_at lw_m9 193 rfl) rfl
theorem q2200 : (Jvm.Cond.sameMethod "java/lang/AbstractStringBuilder" "java/lang/AbstractStringBuilder" "append" "(C)Ljava/lang/AbstractStringBuilder;") ∈ lw_all := lw_g (lw_at lw_m9 195 rfl) rfl


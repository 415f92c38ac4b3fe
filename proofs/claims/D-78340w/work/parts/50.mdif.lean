/-! 50.mdif.lean.txt -/
set_option maxRecDepth 100000
abbrev cX4_isEasy : ByteArray := prog_11_method_68_code
def yX4_isEasy : MethodName := ⟨RX4, "isEasy", "(II)Z"⟩
def dkwX4_isEasy_3 : List UInt8 := [26, 16, 11, 160, 0, 7, 4, 167, 0, 4, 3, 172]
abbrev dktX4_isEasy_3 : List UInt8 := dkwX4_isEasy_3 ++ []
def dkwX4_isEasy_2 : List UInt8 := [16, 7, 159, 0, 28, 27, 5, 160, 0, 27, 28, 154, 0, 19, 26, 153, 0, 15, 26, 16, 7, 159, 0, 9]
abbrev dktX4_isEasy_2 : List UInt8 := dkwX4_isEasy_2 ++ dktX4_isEasy_3
def dkwX4_isEasy_1 : List UInt8 := [159, 0, 8, 27, 6, 160, 0, 5, 28, 172, 27, 154, 0, 17, 28, 154, 0, 38, 26, 153, 0, 34, 26]
abbrev dktX4_isEasy_1 : List UInt8 := dkwX4_isEasy_1 ++ dktX4_isEasy_2
def dkwX4_isEasy_0 : List UInt8 := [26, 16, 9, 159, 0, 13, 26, 5, 159, 0, 8, 26, 7, 160, 0, 7, 4, 167, 0, 4, 3, 61, 27, 4]
abbrev dktX4_isEasy_0 : List UInt8 := dkwX4_isEasy_0 ++ dktX4_isEasy_1
theorem dksX4_isEasy_0 : cX4_isEasy.data.toList.drop 0 = dktX4_isEasy_0 := by decide +kernel
theorem dksX4_isEasy_1 : cX4_isEasy.data.toList.drop 24 = dktX4_isEasy_1 := dk_seg dksX4_isEasy_0 24 rfl rfl
theorem dksX4_isEasy_2 : cX4_isEasy.data.toList.drop 47 = dktX4_isEasy_2 := dk_seg dksX4_isEasy_1 23 rfl rfl
theorem dksX4_isEasy_3 : cX4_isEasy.data.toList.drop 71 = dktX4_isEasy_3 := dk_seg dksX4_isEasy_2 24 rfl rfl
abbrev cX4_difficultyOf : ByteArray := prog_11_method_69_code
def yX4_difficultyOf : MethodName := ⟨RX4, "difficultyOf", "(I)I"⟩
def dkwX4_difficultyOf_8 : List UInt8 := [132, 5, 1, 167, 255, 75, 28, 172]
abbrev dktX4_difficultyOf_8 : List UInt8 := dkwX4_difficultyOf_8 ++ []
def dkwX4_difficultyOf_7 : List UInt8 := [153, 0, 14, 21, 7, 21, 4, 159, 0, 7, 4, 167, 0, 4, 3, 96, 61, 21, 8, 62, 21, 7, 54, 4]
abbrev dktX4_difficultyOf_7 : List UInt8 := dkwX4_difficultyOf_7 ++ dktX4_difficultyOf_8
def dkwX4_difficultyOf_6 : List UInt8 := [159, 0, 7, 4, 167, 0, 4, 3, 96, 61, 28, 21, 5, 158, 0, 23, 21, 8, 153, 0, 18, 29]
abbrev dktX4_difficultyOf_6 : List UInt8 := dkwX4_difficultyOf_6 ++ dktX4_difficultyOf_7
def dkwX4_difficultyOf_5 : List UInt8 := [180, 0, 7, 21, 6, 7, 96, 46, 184, 0, 161, 42, 180, 0, 7, 21, 6, 5, 96, 46, 184, 0, 161]
abbrev dktX4_difficultyOf_5 : List UInt8 := dkwX4_difficultyOf_5 ++ dktX4_difficultyOf_6
def dkwX4_difficultyOf_4 : List UInt8 := [4, 167, 0, 4, 3, 96, 96, 61, 28, 42, 180, 0, 7, 21, 6, 7, 96, 46, 16, 100, 159, 0, 34, 42]
abbrev dktX4_difficultyOf_4 : List UInt8 := dkwX4_difficultyOf_4 ++ dktX4_difficultyOf_5
def dkwX4_difficultyOf_3 : List UInt8 := [28, 21, 8, 153, 0, 7, 7, 167, 0, 4, 4, 42, 180, 0, 7, 21, 6, 6, 96, 46, 6, 164, 0, 7]
abbrev dktX4_difficultyOf_3 : List UInt8 := dkwX4_difficultyOf_3 ++ dktX4_difficultyOf_4
def dkwX4_difficultyOf_2 : List UInt8 := [21, 7, 42, 180, 0, 7, 21, 6, 6, 96, 46, 184, 0, 194, 154, 0, 7, 4, 167, 0, 4, 3, 54, 8]
abbrev dktX4_difficultyOf_2 : List UInt8 := dkwX4_difficultyOf_2 ++ dktX4_difficultyOf_3
def dkwX4_difficultyOf_1 : List UInt8 := [184, 0, 94, 54, 6, 42, 180, 0, 7, 21, 6, 5, 96, 46, 184, 0, 161, 27, 100, 184, 0, 52, 54, 7]
abbrev dktX4_difficultyOf_1 : List UInt8 := dkwX4_difficultyOf_1 ++ dktX4_difficultyOf_2
def dkwX4_difficultyOf_0 : List UInt8 := [27, 61, 3, 62, 2, 54, 4, 3, 54, 5, 21, 5, 42, 180, 0, 7, 4, 46, 162, 0, 176, 21, 5]
abbrev dktX4_difficultyOf_0 : List UInt8 := dkwX4_difficultyOf_0 ++ dktX4_difficultyOf_1
theorem dksX4_difficultyOf_0 : cX4_difficultyOf.data.toList.drop 0 = dktX4_difficultyOf_0 := by decide +kernel
theorem dksX4_difficultyOf_1 : cX4_difficultyOf.data.toList.drop 23 = dktX4_difficultyOf_1 := dk_seg dksX4_difficultyOf_0 23 rfl rfl
theorem dksX4_difficultyOf_2 : cX4_difficultyOf.data.toList.drop 47 = dktX4_difficultyOf_2 := dk_seg dksX4_difficultyOf_1 24 rfl rfl
theorem dksX4_difficultyOf_3 : cX4_difficultyOf.data.toList.drop 71 = dktX4_difficultyOf_3 := dk_seg dksX4_difficultyOf_2 24 rfl rfl
theorem dksX4_difficultyOf_4 : cX4_difficultyOf.data.toList.drop 95 = dktX4_difficultyOf_4 := dk_seg dksX4_difficultyOf_3 24 rfl rfl
theorem dksX4_difficultyOf_5 : cX4_difficultyOf.data.toList.drop 119 = dktX4_difficultyOf_5 := dk_seg dksX4_difficultyOf_4 24 rfl rfl
theorem dksX4_difficultyOf_6 : cX4_difficultyOf.data.toList.drop 142 = dktX4_difficultyOf_6 := dk_seg dksX4_difficultyOf_5 23 rfl rfl
theorem dksX4_difficultyOf_7 : cX4_difficultyOf.data.toList.drop 164 = dktX4_difficultyOf_7 := dk_seg dksX4_difficultyOf_6 22 rfl rfl
theorem dksX4_difficultyOf_8 : cX4_difficultyOf.data.toList.drop 188 = dktX4_difficultyOf_8 := dk_seg dksX4_difficultyOf_7 24 rfl rfl
abbrev cX4_difficulty : ByteArray := prog_11_method_70_code
def yX4_difficulty : MethodName := ⟨RX4, "difficulty", "(I)I"⟩
def dkwX4_difficulty_1 : List UInt8 := [4, 182, 0, 101, 172]
abbrev dktX4_difficulty_1 : List UInt8 := dkwX4_difficulty_1 ++ []
def dkwX4_difficulty_0 : List UInt8 := [42, 3, 181, 0, 46, 27, 3, 16, 7, 184, 0, 97, 153, 0, 11, 42, 27, 182, 0, 197, 167, 0, 8, 42]
abbrev dktX4_difficulty_0 : List UInt8 := dkwX4_difficulty_0 ++ dktX4_difficulty_1
theorem dksX4_difficulty_0 : cX4_difficulty.data.toList.drop 0 = dktX4_difficulty_0 := by decide +kernel
theorem dksX4_difficulty_1 : cX4_difficulty.data.toList.drop 24 = dktX4_difficulty_1 := dk_seg dksX4_difficulty_0 24 rfl rfl
abbrev cX4_bestCapo : ByteArray := prog_11_method_71_code
def yX4_bestCapo : MethodName := ⟨RX4, "bestCapo", "()I"⟩
def dkwX4_bestCapo_1 : List UInt8 := [182, 0, 197, 162, 0, 7, 28, 167, 0, 4, 27, 60, 132, 2, 1, 167, 255, 228, 27, 172]
abbrev dktX4_bestCapo_1 : List UInt8 := dkwX4_bestCapo_1 ++ []
def dkwX4_bestCapo_0 : List UInt8 := [42, 3, 181, 0, 46, 3, 60, 4, 61, 28, 16, 7, 163, 0, 28, 42, 28, 182, 0, 197, 42, 27]
abbrev dktX4_bestCapo_0 : List UInt8 := dkwX4_bestCapo_0 ++ dktX4_bestCapo_1
theorem dksX4_bestCapo_0 : cX4_bestCapo.data.toList.drop 0 = dktX4_bestCapo_0 := by decide +kernel
theorem dksX4_bestCapo_1 : cX4_bestCapo.data.toList.drop 22 = dktX4_bestCapo_1 := dk_seg dksX4_bestCapo_0 22 rfl rfl
theorem dX4_isEasy_0 : decode cX4_isEasy 0 = .ok (.iload_n 0, 1) := dk_26 (dk_at dksX4_isEasy_0 0 rfl rfl)
theorem dX4_isEasy_1 : decode cX4_isEasy 1 = .ok (.bipush 9, 2) := dk_16 9 (dk_at dksX4_isEasy_0 1 rfl rfl)
theorem dX4_isEasy_3 : decode cX4_isEasy 3 = .ok (.if_icmp .eq 13, 3) := dk_159 0 13 (dk_at dksX4_isEasy_0 3 rfl rfl)
theorem dX4_isEasy_6 : decode cX4_isEasy 6 = .ok (.iload_n 0, 1) := dk_26 (dk_at dksX4_isEasy_0 6 rfl rfl)
theorem dX4_isEasy_7 : decode cX4_isEasy 7 = .ok (.iconst 2, 1) := dk_5 (dk_at dksX4_isEasy_0 7 rfl rfl)
theorem dX4_isEasy_8 : decode cX4_isEasy 8 = .ok (.if_icmp .eq 8, 3) := dk_159 0 8 (dk_at dksX4_isEasy_0 8 rfl rfl)
theorem dX4_isEasy_11 : decode cX4_isEasy 11 = .ok (.iload_n 0, 1) := dk_26 (dk_at dksX4_isEasy_0 11 rfl rfl)
theorem dX4_isEasy_12 : decode cX4_isEasy 12 = .ok (.iconst 4, 1) := dk_7 (dk_at dksX4_isEasy_0 12 rfl rfl)
theorem dX4_isEasy_13 : decode cX4_isEasy 13 = .ok (.if_icmp .ne 7, 3) := dk_160 0 7 (dk_at dksX4_isEasy_0 13 rfl rfl)
theorem dX4_isEasy_16 : decode cX4_isEasy 16 = .ok (.iconst 1, 1) := dk_4 (dk_at dksX4_isEasy_0 16 rfl rfl)
theorem dX4_isEasy_17 : decode cX4_isEasy 17 = .ok (.goto 4, 3) := dk_167 0 4 (dk_at dksX4_isEasy_0 17 rfl rfl)
theorem dX4_isEasy_20 : decode cX4_isEasy 20 = .ok (.iconst 0, 1) := dk_3 (dk_at dksX4_isEasy_0 20 rfl rfl)
theorem dX4_isEasy_21 : decode cX4_isEasy 21 = .ok (.istore_n 2, 1) := dk_61 (dk_at dksX4_isEasy_0 21 rfl rfl)
theorem dX4_isEasy_22 : decode cX4_isEasy 22 = .ok (.iload_n 1, 1) := dk_27 (dk_at dksX4_isEasy_0 22 rfl rfl)
theorem dX4_isEasy_23 : decode cX4_isEasy 23 = .ok (.iconst 1, 1) := dk_4 (dk_at dksX4_isEasy_0 23 rfl rfl)
theorem dX4_isEasy_24 : decode cX4_isEasy 24 = .ok (.if_icmp .eq 8, 3) := dk_159 0 8 (dk_at dksX4_isEasy_1 0 rfl rfl)
theorem dX4_isEasy_27 : decode cX4_isEasy 27 = .ok (.iload_n 1, 1) := dk_27 (dk_at dksX4_isEasy_1 3 rfl rfl)
theorem dX4_isEasy_28 : decode cX4_isEasy 28 = .ok (.iconst 3, 1) := dk_6 (dk_at dksX4_isEasy_1 4 rfl rfl)
theorem dX4_isEasy_29 : decode cX4_isEasy 29 = .ok (.if_icmp .ne 5, 3) := dk_160 0 5 (dk_at dksX4_isEasy_1 5 rfl rfl)
theorem dX4_isEasy_32 : decode cX4_isEasy 32 = .ok (.iload_n 2, 1) := dk_28 (dk_at dksX4_isEasy_1 8 rfl rfl)
theorem dX4_isEasy_33 : decode cX4_isEasy 33 = .ok (.ireturn, 1) := dk_172 (dk_at dksX4_isEasy_1 9 rfl rfl)
theorem dX4_isEasy_34 : decode cX4_isEasy 34 = .ok (.iload_n 1, 1) := dk_27 (dk_at dksX4_isEasy_1 10 rfl rfl)
theorem dX4_isEasy_35 : decode cX4_isEasy 35 = .ok (.ifCond .ne 17, 3) := dk_154 0 17 (dk_at dksX4_isEasy_1 11 rfl rfl)
theorem dX4_isEasy_38 : decode cX4_isEasy 38 = .ok (.iload_n 2, 1) := dk_28 (dk_at dksX4_isEasy_1 14 rfl rfl)
theorem dX4_isEasy_39 : decode cX4_isEasy 39 = .ok (.ifCond .ne 38, 3) := dk_154 0 38 (dk_at dksX4_isEasy_1 15 rfl rfl)
theorem dX4_isEasy_42 : decode cX4_isEasy 42 = .ok (.iload_n 0, 1) := dk_26 (dk_at dksX4_isEasy_1 18 rfl rfl)
theorem dX4_isEasy_43 : decode cX4_isEasy 43 = .ok (.ifCond .eq 34, 3) := dk_153 0 34 (dk_at dksX4_isEasy_1 19 rfl rfl)
theorem dX4_isEasy_46 : decode cX4_isEasy 46 = .ok (.iload_n 0, 1) := dk_26 (dk_at dksX4_isEasy_1 22 rfl rfl)
theorem dX4_isEasy_47 : decode cX4_isEasy 47 = .ok (.bipush 7, 2) := dk_16 7 (dk_at dksX4_isEasy_2 0 rfl rfl)
theorem dX4_isEasy_49 : decode cX4_isEasy 49 = .ok (.if_icmp .eq 28, 3) := dk_159 0 28 (dk_at dksX4_isEasy_2 2 rfl rfl)
theorem dX4_isEasy_52 : decode cX4_isEasy 52 = .ok (.iload_n 1, 1) := dk_27 (dk_at dksX4_isEasy_2 5 rfl rfl)
theorem dX4_isEasy_53 : decode cX4_isEasy 53 = .ok (.iconst 2, 1) := dk_5 (dk_at dksX4_isEasy_2 6 rfl rfl)
theorem dX4_isEasy_54 : decode cX4_isEasy 54 = .ok (.if_icmp .ne 27, 3) := dk_160 0 27 (dk_at dksX4_isEasy_2 7 rfl rfl)
theorem dX4_isEasy_57 : decode cX4_isEasy 57 = .ok (.iload_n 2, 1) := dk_28 (dk_at dksX4_isEasy_2 10 rfl rfl)
theorem dX4_isEasy_58 : decode cX4_isEasy 58 = .ok (.ifCond .ne 19, 3) := dk_154 0 19 (dk_at dksX4_isEasy_2 11 rfl rfl)
theorem dX4_isEasy_61 : decode cX4_isEasy 61 = .ok (.iload_n 0, 1) := dk_26 (dk_at dksX4_isEasy_2 14 rfl rfl)
theorem dX4_isEasy_62 : decode cX4_isEasy 62 = .ok (.ifCond .eq 15, 3) := dk_153 0 15 (dk_at dksX4_isEasy_2 15 rfl rfl)
theorem dX4_isEasy_65 : decode cX4_isEasy 65 = .ok (.iload_n 0, 1) := dk_26 (dk_at dksX4_isEasy_2 18 rfl rfl)
theorem dX4_isEasy_66 : decode cX4_isEasy 66 = .ok (.bipush 7, 2) := dk_16 7 (dk_at dksX4_isEasy_2 19 rfl rfl)
theorem dX4_isEasy_68 : decode cX4_isEasy 68 = .ok (.if_icmp .eq 9, 3) := dk_159 0 9 (dk_at dksX4_isEasy_2 21 rfl rfl)
theorem dX4_isEasy_71 : decode cX4_isEasy 71 = .ok (.iload_n 0, 1) := dk_26 (dk_at dksX4_isEasy_3 0 rfl rfl)
theorem dX4_isEasy_72 : decode cX4_isEasy 72 = .ok (.bipush 11, 2) := dk_16 11 (dk_at dksX4_isEasy_3 1 rfl rfl)
theorem dX4_isEasy_74 : decode cX4_isEasy 74 = .ok (.if_icmp .ne 7, 3) := dk_160 0 7 (dk_at dksX4_isEasy_3 3 rfl rfl)
theorem dX4_isEasy_77 : decode cX4_isEasy 77 = .ok (.iconst 1, 1) := dk_4 (dk_at dksX4_isEasy_3 6 rfl rfl)
theorem dX4_isEasy_78 : decode cX4_isEasy 78 = .ok (.goto 4, 3) := dk_167 0 4 (dk_at dksX4_isEasy_3 7 rfl rfl)
theorem dX4_isEasy_81 : decode cX4_isEasy 81 = .ok (.iconst 0, 1) := dk_3 (dk_at dksX4_isEasy_3 10 rfl rfl)
theorem dX4_isEasy_82 : decode cX4_isEasy 82 = .ok (.ireturn, 1) := dk_172 (dk_at dksX4_isEasy_3 11 rfl rfl)
theorem dX4_difficultyOf_0 : decode cX4_difficultyOf 0 = .ok (.iload_n 1, 1) := dk_27 (dk_at dksX4_difficultyOf_0 0 rfl rfl)
theorem dX4_difficultyOf_1 : decode cX4_difficultyOf 1 = .ok (.istore_n 2, 1) := dk_61 (dk_at dksX4_difficultyOf_0 1 rfl rfl)
theorem dX4_difficultyOf_2 : decode cX4_difficultyOf 2 = .ok (.iconst 0, 1) := dk_3 (dk_at dksX4_difficultyOf_0 2 rfl rfl)
theorem dX4_difficultyOf_3 : decode cX4_difficultyOf 3 = .ok (.istore_n 3, 1) := dk_62 (dk_at dksX4_difficultyOf_0 3 rfl rfl)
theorem dX4_difficultyOf_4 : decode cX4_difficultyOf 4 = .ok (.iconst (-1), 1) := dk_2 (dk_at dksX4_difficultyOf_0 4 rfl rfl)
theorem dX4_difficultyOf_5 : decode cX4_difficultyOf 5 = .ok (.istore 4, 2) := dk_54 4 (dk_at dksX4_difficultyOf_0 5 rfl rfl)
theorem dX4_difficultyOf_7 : decode cX4_difficultyOf 7 = .ok (.iconst 0, 1) := dk_3 (dk_at dksX4_difficultyOf_0 7 rfl rfl)
theorem dX4_difficultyOf_8 : decode cX4_difficultyOf 8 = .ok (.istore 5, 2) := dk_54 5 (dk_at dksX4_difficultyOf_0 8 rfl rfl)
theorem dX4_difficultyOf_10 : decode cX4_difficultyOf 10 = .ok (.iload 5, 2) := dk_21 5 (dk_at dksX4_difficultyOf_0 10 rfl rfl)
theorem dX4_difficultyOf_12 : decode cX4_difficultyOf 12 = .ok (.aload_n 0, 1) := dk_42 (dk_at dksX4_difficultyOf_0 12 rfl rfl)
theorem dX4_difficultyOf_13 : decode cX4_difficultyOf 13 = .ok (.getfield 7, 3) := dk_180 0 7 (dk_at dksX4_difficultyOf_0 13 rfl rfl)
theorem dX4_difficultyOf_16 : decode cX4_difficultyOf 16 = .ok (.iconst 1, 1) := dk_4 (dk_at dksX4_difficultyOf_0 16 rfl rfl)
theorem dX4_difficultyOf_17 : decode cX4_difficultyOf 17 = .ok (.iaload, 1) := dk_46 (dk_at dksX4_difficultyOf_0 17 rfl rfl)
theorem dX4_difficultyOf_18 : decode cX4_difficultyOf 18 = .ok (.if_icmp .ge 176, 3) := dk_162 0 176 (dk_at dksX4_difficultyOf_0 18 rfl rfl)
theorem dX4_difficultyOf_21 : decode cX4_difficultyOf 21 = .ok (.iload 5, 2) := dk_21 5 (dk_at dksX4_difficultyOf_0 21 rfl rfl)
theorem dX4_difficultyOf_23 : decode cX4_difficultyOf 23 = .ok (.invokestatic 94, 3) := dk_184 0 94 (dk_at dksX4_difficultyOf_1 0 rfl rfl)
theorem dX4_difficultyOf_26 : decode cX4_difficultyOf 26 = .ok (.istore 6, 2) := dk_54 6 (dk_at dksX4_difficultyOf_1 3 rfl rfl)
theorem dX4_difficultyOf_28 : decode cX4_difficultyOf 28 = .ok (.aload_n 0, 1) := dk_42 (dk_at dksX4_difficultyOf_1 5 rfl rfl)
theorem dX4_difficultyOf_29 : decode cX4_difficultyOf 29 = .ok (.getfield 7, 3) := dk_180 0 7 (dk_at dksX4_difficultyOf_1 6 rfl rfl)
theorem dX4_difficultyOf_32 : decode cX4_difficultyOf 32 = .ok (.iload 6, 2) := dk_21 6 (dk_at dksX4_difficultyOf_1 9 rfl rfl)
theorem dX4_difficultyOf_34 : decode cX4_difficultyOf 34 = .ok (.iconst 2, 1) := dk_5 (dk_at dksX4_difficultyOf_1 11 rfl rfl)
theorem dX4_difficultyOf_35 : decode cX4_difficultyOf 35 = .ok (.iadd, 1) := dk_96 (dk_at dksX4_difficultyOf_1 12 rfl rfl)
theorem dX4_difficultyOf_36 : decode cX4_difficultyOf 36 = .ok (.iaload, 1) := dk_46 (dk_at dksX4_difficultyOf_1 13 rfl rfl)
theorem dX4_difficultyOf_37 : decode cX4_difficultyOf 37 = .ok (.invokestatic 161, 3) := dk_184 0 161 (dk_at dksX4_difficultyOf_1 14 rfl rfl)
theorem dX4_difficultyOf_40 : decode cX4_difficultyOf 40 = .ok (.iload_n 1, 1) := dk_27 (dk_at dksX4_difficultyOf_1 17 rfl rfl)
theorem dX4_difficultyOf_41 : decode cX4_difficultyOf 41 = .ok (.isub, 1) := dk_100 (dk_at dksX4_difficultyOf_1 18 rfl rfl)
theorem dX4_difficultyOf_42 : decode cX4_difficultyOf 42 = .ok (.invokestatic 52, 3) := dk_184 0 52 (dk_at dksX4_difficultyOf_1 19 rfl rfl)
theorem dX4_difficultyOf_45 : decode cX4_difficultyOf 45 = .ok (.istore 7, 2) := dk_54 7 (dk_at dksX4_difficultyOf_1 22 rfl rfl)
theorem dX4_difficultyOf_47 : decode cX4_difficultyOf 47 = .ok (.iload 7, 2) := dk_21 7 (dk_at dksX4_difficultyOf_2 0 rfl rfl)
theorem dX4_difficultyOf_49 : decode cX4_difficultyOf 49 = .ok (.aload_n 0, 1) := dk_42 (dk_at dksX4_difficultyOf_2 2 rfl rfl)
theorem dX4_difficultyOf_50 : decode cX4_difficultyOf 50 = .ok (.getfield 7, 3) := dk_180 0 7 (dk_at dksX4_difficultyOf_2 3 rfl rfl)
theorem dX4_difficultyOf_53 : decode cX4_difficultyOf 53 = .ok (.iload 6, 2) := dk_21 6 (dk_at dksX4_difficultyOf_2 6 rfl rfl)
theorem dX4_difficultyOf_55 : decode cX4_difficultyOf 55 = .ok (.iconst 3, 1) := dk_6 (dk_at dksX4_difficultyOf_2 8 rfl rfl)
theorem dX4_difficultyOf_56 : decode cX4_difficultyOf 56 = .ok (.iadd, 1) := dk_96 (dk_at dksX4_difficultyOf_2 9 rfl rfl)
theorem dX4_difficultyOf_57 : decode cX4_difficultyOf 57 = .ok (.iaload, 1) := dk_46 (dk_at dksX4_difficultyOf_2 10 rfl rfl)
theorem dX4_difficultyOf_58 : decode cX4_difficultyOf 58 = .ok (.invokestatic 194, 3) := dk_184 0 194 (dk_at dksX4_difficultyOf_2 11 rfl rfl)
theorem dX4_difficultyOf_61 : decode cX4_difficultyOf 61 = .ok (.ifCond .ne 7, 3) := dk_154 0 7 (dk_at dksX4_difficultyOf_2 14 rfl rfl)
theorem dX4_difficultyOf_64 : decode cX4_difficultyOf 64 = .ok (.iconst 1, 1) := dk_4 (dk_at dksX4_difficultyOf_2 17 rfl rfl)
theorem dX4_difficultyOf_65 : decode cX4_difficultyOf 65 = .ok (.goto 4, 3) := dk_167 0 4 (dk_at dksX4_difficultyOf_2 18 rfl rfl)
theorem dX4_difficultyOf_68 : decode cX4_difficultyOf 68 = .ok (.iconst 0, 1) := dk_3 (dk_at dksX4_difficultyOf_2 21 rfl rfl)
theorem dX4_difficultyOf_69 : decode cX4_difficultyOf 69 = .ok (.istore 8, 2) := dk_54 8 (dk_at dksX4_difficultyOf_2 22 rfl rfl)
theorem dX4_difficultyOf_71 : decode cX4_difficultyOf 71 = .ok (.iload_n 2, 1) := dk_28 (dk_at dksX4_difficultyOf_3 0 rfl rfl)
theorem dX4_difficultyOf_72 : decode cX4_difficultyOf 72 = .ok (.iload 8, 2) := dk_21 8 (dk_at dksX4_difficultyOf_3 1 rfl rfl)
theorem dX4_difficultyOf_74 : decode cX4_difficultyOf 74 = .ok (.ifCond .eq 7, 3) := dk_153 0 7 (dk_at dksX4_difficultyOf_3 3 rfl rfl)
theorem dX4_difficultyOf_77 : decode cX4_difficultyOf 77 = .ok (.iconst 4, 1) := dk_7 (dk_at dksX4_difficultyOf_3 6 rfl rfl)
theorem dX4_difficultyOf_78 : decode cX4_difficultyOf 78 = .ok (.goto 4, 3) := dk_167 0 4 (dk_at dksX4_difficultyOf_3 7 rfl rfl)
theorem dX4_difficultyOf_81 : decode cX4_difficultyOf 81 = .ok (.iconst 1, 1) := dk_4 (dk_at dksX4_difficultyOf_3 10 rfl rfl)
theorem dX4_difficultyOf_82 : decode cX4_difficultyOf 82 = .ok (.aload_n 0, 1) := dk_42 (dk_at dksX4_difficultyOf_3 11 rfl rfl)
theorem dX4_difficultyOf_83 : decode cX4_difficultyOf 83 = .ok (.getfield 7, 3) := dk_180 0 7 (dk_at dksX4_difficultyOf_3 12 rfl rfl)
theorem dX4_difficultyOf_86 : decode cX4_difficultyOf 86 = .ok (.iload 6, 2) := dk_21 6 (dk_at dksX4_difficultyOf_3 15 rfl rfl)
theorem dX4_difficultyOf_88 : decode cX4_difficultyOf 88 = .ok (.iconst 3, 1) := dk_6 (dk_at dksX4_difficultyOf_3 17 rfl rfl)
theorem dX4_difficultyOf_89 : decode cX4_difficultyOf 89 = .ok (.iadd, 1) := dk_96 (dk_at dksX4_difficultyOf_3 18 rfl rfl)
theorem dX4_difficultyOf_90 : decode cX4_difficultyOf 90 = .ok (.iaload, 1) := dk_46 (dk_at dksX4_difficultyOf_3 19 rfl rfl)
theorem dX4_difficultyOf_91 : decode cX4_difficultyOf 91 = .ok (.iconst 3, 1) := dk_6 (dk_at dksX4_difficultyOf_3 20 rfl rfl)
theorem dX4_difficultyOf_92 : decode cX4_difficultyOf 92 = .ok (.if_icmp .le 7, 3) := dk_164 0 7 (dk_at dksX4_difficultyOf_3 21 rfl rfl)
theorem dX4_difficultyOf_95 : decode cX4_difficultyOf 95 = .ok (.iconst 1, 1) := dk_4 (dk_at dksX4_difficultyOf_4 0 rfl rfl)
theorem dX4_difficultyOf_96 : decode cX4_difficultyOf 96 = .ok (.goto 4, 3) := dk_167 0 4 (dk_at dksX4_difficultyOf_4 1 rfl rfl)
theorem dX4_difficultyOf_99 : decode cX4_difficultyOf 99 = .ok (.iconst 0, 1) := dk_3 (dk_at dksX4_difficultyOf_4 4 rfl rfl)
theorem dX4_difficultyOf_100 : decode cX4_difficultyOf 100 = .ok (.iadd, 1) := dk_96 (dk_at dksX4_difficultyOf_4 5 rfl rfl)
theorem dX4_difficultyOf_101 : decode cX4_difficultyOf 101 = .ok (.iadd, 1) := dk_96 (dk_at dksX4_difficultyOf_4 6 rfl rfl)
theorem dX4_difficultyOf_102 : decode cX4_difficultyOf 102 = .ok (.istore_n 2, 1) := dk_61 (dk_at dksX4_difficultyOf_4 7 rfl rfl)
theorem dX4_difficultyOf_103 : decode cX4_difficultyOf 103 = .ok (.iload_n 2, 1) := dk_28 (dk_at dksX4_difficultyOf_4 8 rfl rfl)
theorem dX4_difficultyOf_104 : decode cX4_difficultyOf 104 = .ok (.aload_n 0, 1) := dk_42 (dk_at dksX4_difficultyOf_4 9 rfl rfl)
theorem dX4_difficultyOf_105 : decode cX4_difficultyOf 105 = .ok (.getfield 7, 3) := dk_180 0 7 (dk_at dksX4_difficultyOf_4 10 rfl rfl)
theorem dX4_difficultyOf_108 : decode cX4_difficultyOf 108 = .ok (.iload 6, 2) := dk_21 6 (dk_at dksX4_difficultyOf_4 13 rfl rfl)
theorem dX4_difficultyOf_110 : decode cX4_difficultyOf 110 = .ok (.iconst 4, 1) := dk_7 (dk_at dksX4_difficultyOf_4 15 rfl rfl)
theorem dX4_difficultyOf_111 : decode cX4_difficultyOf 111 = .ok (.iadd, 1) := dk_96 (dk_at dksX4_difficultyOf_4 16 rfl rfl)
theorem dX4_difficultyOf_112 : decode cX4_difficultyOf 112 = .ok (.iaload, 1) := dk_46 (dk_at dksX4_difficultyOf_4 17 rfl rfl)
theorem dX4_difficultyOf_113 : decode cX4_difficultyOf 113 = .ok (.bipush 100, 2) := dk_16 100 (dk_at dksX4_difficultyOf_4 18 rfl rfl)
theorem dX4_difficultyOf_115 : decode cX4_difficultyOf 115 = .ok (.if_icmp .eq 34, 3) := dk_159 0 34 (dk_at dksX4_difficultyOf_4 20 rfl rfl)
theorem dX4_difficultyOf_118 : decode cX4_difficultyOf 118 = .ok (.aload_n 0, 1) := dk_42 (dk_at dksX4_difficultyOf_4 23 rfl rfl)
theorem dX4_difficultyOf_119 : decode cX4_difficultyOf 119 = .ok (.getfield 7, 3) := dk_180 0 7 (dk_at dksX4_difficultyOf_5 0 rfl rfl)
theorem dX4_difficultyOf_122 : decode cX4_difficultyOf 122 = .ok (.iload 6, 2) := dk_21 6 (dk_at dksX4_difficultyOf_5 3 rfl rfl)
theorem dX4_difficultyOf_124 : decode cX4_difficultyOf 124 = .ok (.iconst 4, 1) := dk_7 (dk_at dksX4_difficultyOf_5 5 rfl rfl)
theorem dX4_difficultyOf_125 : decode cX4_difficultyOf 125 = .ok (.iadd, 1) := dk_96 (dk_at dksX4_difficultyOf_5 6 rfl rfl)
theorem dX4_difficultyOf_126 : decode cX4_difficultyOf 126 = .ok (.iaload, 1) := dk_46 (dk_at dksX4_difficultyOf_5 7 rfl rfl)
theorem dX4_difficultyOf_127 : decode cX4_difficultyOf 127 = .ok (.invokestatic 161, 3) := dk_184 0 161 (dk_at dksX4_difficultyOf_5 8 rfl rfl)
theorem dX4_difficultyOf_130 : decode cX4_difficultyOf 130 = .ok (.aload_n 0, 1) := dk_42 (dk_at dksX4_difficultyOf_5 11 rfl rfl)
theorem dX4_difficultyOf_131 : decode cX4_difficultyOf 131 = .ok (.getfield 7, 3) := dk_180 0 7 (dk_at dksX4_difficultyOf_5 12 rfl rfl)
theorem dX4_difficultyOf_134 : decode cX4_difficultyOf 134 = .ok (.iload 6, 2) := dk_21 6 (dk_at dksX4_difficultyOf_5 15 rfl rfl)
theorem dX4_difficultyOf_136 : decode cX4_difficultyOf 136 = .ok (.iconst 2, 1) := dk_5 (dk_at dksX4_difficultyOf_5 17 rfl rfl)
theorem dX4_difficultyOf_137 : decode cX4_difficultyOf 137 = .ok (.iadd, 1) := dk_96 (dk_at dksX4_difficultyOf_5 18 rfl rfl)
theorem dX4_difficultyOf_138 : decode cX4_difficultyOf 138 = .ok (.iaload, 1) := dk_46 (dk_at dksX4_difficultyOf_5 19 rfl rfl)
theorem dX4_difficultyOf_139 : decode cX4_difficultyOf 139 = .ok (.invokestatic 161, 3) := dk_184 0 161 (dk_at dksX4_difficultyOf_5 20 rfl rfl)
theorem dX4_difficultyOf_142 : decode cX4_difficultyOf 142 = .ok (.if_icmp .eq 7, 3) := dk_159 0 7 (dk_at dksX4_difficultyOf_6 0 rfl rfl)
theorem dX4_difficultyOf_145 : decode cX4_difficultyOf 145 = .ok (.iconst 1, 1) := dk_4 (dk_at dksX4_difficultyOf_6 3 rfl rfl)
theorem dX4_difficultyOf_146 : decode cX4_difficultyOf 146 = .ok (.goto 4, 3) := dk_167 0 4 (dk_at dksX4_difficultyOf_6 4 rfl rfl)
theorem dX4_difficultyOf_149 : decode cX4_difficultyOf 149 = .ok (.iconst 0, 1) := dk_3 (dk_at dksX4_difficultyOf_6 7 rfl rfl)
theorem dX4_difficultyOf_150 : decode cX4_difficultyOf 150 = .ok (.iadd, 1) := dk_96 (dk_at dksX4_difficultyOf_6 8 rfl rfl)
theorem dX4_difficultyOf_151 : decode cX4_difficultyOf 151 = .ok (.istore_n 2, 1) := dk_61 (dk_at dksX4_difficultyOf_6 9 rfl rfl)
theorem dX4_difficultyOf_152 : decode cX4_difficultyOf 152 = .ok (.iload_n 2, 1) := dk_28 (dk_at dksX4_difficultyOf_6 10 rfl rfl)
theorem dX4_difficultyOf_153 : decode cX4_difficultyOf 153 = .ok (.iload 5, 2) := dk_21 5 (dk_at dksX4_difficultyOf_6 11 rfl rfl)
theorem dX4_difficultyOf_155 : decode cX4_difficultyOf 155 = .ok (.ifCond .le 23, 3) := dk_158 0 23 (dk_at dksX4_difficultyOf_6 13 rfl rfl)
theorem dX4_difficultyOf_158 : decode cX4_difficultyOf 158 = .ok (.iload 8, 2) := dk_21 8 (dk_at dksX4_difficultyOf_6 16 rfl rfl)
theorem dX4_difficultyOf_160 : decode cX4_difficultyOf 160 = .ok (.ifCond .eq 18, 3) := dk_153 0 18 (dk_at dksX4_difficultyOf_6 18 rfl rfl)
theorem dX4_difficultyOf_163 : decode cX4_difficultyOf 163 = .ok (.iload_n 3, 1) := dk_29 (dk_at dksX4_difficultyOf_6 21 rfl rfl)
theorem dX4_difficultyOf_164 : decode cX4_difficultyOf 164 = .ok (.ifCond .eq 14, 3) := dk_153 0 14 (dk_at dksX4_difficultyOf_7 0 rfl rfl)
theorem dX4_difficultyOf_167 : decode cX4_difficultyOf 167 = .ok (.iload 7, 2) := dk_21 7 (dk_at dksX4_difficultyOf_7 3 rfl rfl)
theorem dX4_difficultyOf_169 : decode cX4_difficultyOf 169 = .ok (.iload 4, 2) := dk_21 4 (dk_at dksX4_difficultyOf_7 5 rfl rfl)
theorem dX4_difficultyOf_171 : decode cX4_difficultyOf 171 = .ok (.if_icmp .eq 7, 3) := dk_159 0 7 (dk_at dksX4_difficultyOf_7 7 rfl rfl)
theorem dX4_difficultyOf_174 : decode cX4_difficultyOf 174 = .ok (.iconst 1, 1) := dk_4 (dk_at dksX4_difficultyOf_7 10 rfl rfl)
theorem dX4_difficultyOf_175 : decode cX4_difficultyOf 175 = .ok (.goto 4, 3) := dk_167 0 4 (dk_at dksX4_difficultyOf_7 11 rfl rfl)
theorem dX4_difficultyOf_178 : decode cX4_difficultyOf 178 = .ok (.iconst 0, 1) := dk_3 (dk_at dksX4_difficultyOf_7 14 rfl rfl)
theorem dX4_difficultyOf_179 : decode cX4_difficultyOf 179 = .ok (.iadd, 1) := dk_96 (dk_at dksX4_difficultyOf_7 15 rfl rfl)
theorem dX4_difficultyOf_180 : decode cX4_difficultyOf 180 = .ok (.istore_n 2, 1) := dk_61 (dk_at dksX4_difficultyOf_7 16 rfl rfl)
theorem dX4_difficultyOf_181 : decode cX4_difficultyOf 181 = .ok (.iload 8, 2) := dk_21 8 (dk_at dksX4_difficultyOf_7 17 rfl rfl)
theorem dX4_difficultyOf_183 : decode cX4_difficultyOf 183 = .ok (.istore_n 3, 1) := dk_62 (dk_at dksX4_difficultyOf_7 19 rfl rfl)
theorem dX4_difficultyOf_184 : decode cX4_difficultyOf 184 = .ok (.iload 7, 2) := dk_21 7 (dk_at dksX4_difficultyOf_7 20 rfl rfl)
theorem dX4_difficultyOf_186 : decode cX4_difficultyOf 186 = .ok (.istore 4, 2) := dk_54 4 (dk_at dksX4_difficultyOf_7 22 rfl rfl)
theorem dX4_difficultyOf_188 : decode cX4_difficultyOf 188 = .ok (.iinc 5 1, 3) := dk_132 5 1 (dk_at dksX4_difficultyOf_8 0 rfl rfl)
theorem dX4_difficultyOf_191 : decode cX4_difficultyOf 191 = .ok (.goto (-181), 3) := dk_167 255 75 (dk_at dksX4_difficultyOf_8 3 rfl rfl)
theorem dX4_difficultyOf_194 : decode cX4_difficultyOf 194 = .ok (.iload_n 2, 1) := dk_28 (dk_at dksX4_difficultyOf_8 6 rfl rfl)
theorem dX4_difficultyOf_195 : decode cX4_difficultyOf 195 = .ok (.ireturn, 1) := dk_172 (dk_at dksX4_difficultyOf_8 7 rfl rfl)
theorem dX4_difficulty_0 : decode cX4_difficulty 0 = .ok (.aload_n 0, 1) := dk_42 (dk_at dksX4_difficulty_0 0 rfl rfl)
theorem dX4_difficulty_1 : decode cX4_difficulty 1 = .ok (.iconst 0, 1) := dk_3 (dk_at dksX4_difficulty_0 1 rfl rfl)
theorem dX4_difficulty_2 : decode cX4_difficulty 2 = .ok (.putfield 46, 3) := dk_181 0 46 (dk_at dksX4_difficulty_0 2 rfl rfl)
theorem dX4_difficulty_5 : decode cX4_difficulty 5 = .ok (.iload_n 1, 1) := dk_27 (dk_at dksX4_difficulty_0 5 rfl rfl)
theorem dX4_difficulty_6 : decode cX4_difficulty 6 = .ok (.iconst 0, 1) := dk_3 (dk_at dksX4_difficulty_0 6 rfl rfl)
theorem dX4_difficulty_7 : decode cX4_difficulty 7 = .ok (.bipush 7, 2) := dk_16 7 (dk_at dksX4_difficulty_0 7 rfl rfl)
theorem dX4_difficulty_9 : decode cX4_difficulty 9 = .ok (.invokestatic 97, 3) := dk_184 0 97 (dk_at dksX4_difficulty_0 9 rfl rfl)
theorem dX4_difficulty_12 : decode cX4_difficulty 12 = .ok (.ifCond .eq 11, 3) := dk_153 0 11 (dk_at dksX4_difficulty_0 12 rfl rfl)
theorem dX4_difficulty_15 : decode cX4_difficulty 15 = .ok (.aload_n 0, 1) := dk_42 (dk_at dksX4_difficulty_0 15 rfl rfl)
theorem dX4_difficulty_16 : decode cX4_difficulty 16 = .ok (.iload_n 1, 1) := dk_27 (dk_at dksX4_difficulty_0 16 rfl rfl)
theorem dX4_difficulty_17 : decode cX4_difficulty 17 = .ok (.invokevirtual 197, 3) := dk_182 0 197 (dk_at dksX4_difficulty_0 17 rfl rfl)
theorem dX4_difficulty_20 : decode cX4_difficulty 20 = .ok (.goto 8, 3) := dk_167 0 8 (dk_at dksX4_difficulty_0 20 rfl rfl)
theorem dX4_difficulty_23 : decode cX4_difficulty 23 = .ok (.aload_n 0, 1) := dk_42 (dk_at dksX4_difficulty_0 23 rfl rfl)
theorem dX4_difficulty_24 : decode cX4_difficulty 24 = .ok (.iconst 1, 1) := dk_4 (dk_at dksX4_difficulty_1 0 rfl rfl)
theorem dX4_difficulty_25 : decode cX4_difficulty 25 = .ok (.invokevirtual 101, 3) := dk_182 0 101 (dk_at dksX4_difficulty_1 1 rfl rfl)
theorem dX4_difficulty_28 : decode cX4_difficulty 28 = .ok (.ireturn, 1) := dk_172 (dk_at dksX4_difficulty_1 4 rfl rfl)
theorem dX4_bestCapo_0 : decode cX4_bestCapo 0 = .ok (.aload_n 0, 1) := dk_42 (dk_at dksX4_bestCapo_0 0 rfl rfl)
theorem dX4_bestCapo_1 : decode cX4_bestCapo 1 = .ok (.iconst 0, 1) := dk_3 (dk_at dksX4_bestCapo_0 1 rfl rfl)
theorem dX4_bestCapo_2 : decode cX4_bestCapo 2 = .ok (.putfield 46, 3) := dk_181 0 46 (dk_at dksX4_bestCapo_0 2 rfl rfl)
theorem dX4_bestCapo_5 : decode cX4_bestCapo 5 = .ok (.iconst 0, 1) := dk_3 (dk_at dksX4_bestCapo_0 5 rfl rfl)
theorem dX4_bestCapo_6 : decode cX4_bestCapo 6 = .ok (.istore_n 1, 1) := dk_60 (dk_at dksX4_bestCapo_0 6 rfl rfl)
theorem dX4_bestCapo_7 : decode cX4_bestCapo 7 = .ok (.iconst 1, 1) := dk_4 (dk_at dksX4_bestCapo_0 7 rfl rfl)
theorem dX4_bestCapo_8 : decode cX4_bestCapo 8 = .ok (.istore_n 2, 1) := dk_61 (dk_at dksX4_bestCapo_0 8 rfl rfl)
theorem dX4_bestCapo_9 : decode cX4_bestCapo 9 = .ok (.iload_n 2, 1) := dk_28 (dk_at dksX4_bestCapo_0 9 rfl rfl)
theorem dX4_bestCapo_10 : decode cX4_bestCapo 10 = .ok (.bipush 7, 2) := dk_16 7 (dk_at dksX4_bestCapo_0 10 rfl rfl)
theorem dX4_bestCapo_12 : decode cX4_bestCapo 12 = .ok (.if_icmp .gt 28, 3) := dk_163 0 28 (dk_at dksX4_bestCapo_0 12 rfl rfl)
theorem dX4_bestCapo_15 : decode cX4_bestCapo 15 = .ok (.aload_n 0, 1) := dk_42 (dk_at dksX4_bestCapo_0 15 rfl rfl)
theorem dX4_bestCapo_16 : decode cX4_bestCapo 16 = .ok (.iload_n 2, 1) := dk_28 (dk_at dksX4_bestCapo_0 16 rfl rfl)
theorem dX4_bestCapo_17 : decode cX4_bestCapo 17 = .ok (.invokevirtual 197, 3) := dk_182 0 197 (dk_at dksX4_bestCapo_0 17 rfl rfl)
theorem dX4_bestCapo_20 : decode cX4_bestCapo 20 = .ok (.aload_n 0, 1) := dk_42 (dk_at dksX4_bestCapo_0 20 rfl rfl)
theorem dX4_bestCapo_21 : decode cX4_bestCapo 21 = .ok (.iload_n 1, 1) := dk_27 (dk_at dksX4_bestCapo_0 21 rfl rfl)
theorem dX4_bestCapo_22 : decode cX4_bestCapo 22 = .ok (.invokevirtual 197, 3) := dk_182 0 197 (dk_at dksX4_bestCapo_1 0 rfl rfl)
theorem dX4_bestCapo_25 : decode cX4_bestCapo 25 = .ok (.if_icmp .ge 7, 3) := dk_162 0 7 (dk_at dksX4_bestCapo_1 3 rfl rfl)
theorem dX4_bestCapo_28 : decode cX4_bestCapo 28 = .ok (.iload_n 2, 1) := dk_28 (dk_at dksX4_bestCapo_1 6 rfl rfl)
theorem dX4_bestCapo_29 : decode cX4_bestCapo 29 = .ok (.goto 4, 3) := dk_167 0 4 (dk_at dksX4_bestCapo_1 7 rfl rfl)
theorem dX4_bestCapo_32 : decode cX4_bestCapo 32 = .ok (.iload_n 1, 1) := dk_27 (dk_at dksX4_bestCapo_1 10 rfl rfl)
theorem dX4_bestCapo_33 : decode cX4_bestCapo 33 = .ok (.istore_n 1, 1) := dk_60 (dk_at dksX4_bestCapo_1 11 rfl rfl)
theorem dX4_bestCapo_34 : decode cX4_bestCapo 34 = .ok (.iinc 2 1, 3) := dk_132 2 1 (dk_at dksX4_bestCapo_1 12 rfl rfl)
theorem dX4_bestCapo_37 : decode cX4_bestCapo 37 = .ok (.goto (-28), 3) := dk_167 255 228 (dk_at dksX4_bestCapo_1 15 rfl rfl)
theorem dX4_bestCapo_40 : decode cX4_bestCapo 40 = .ok (.iload_n 1, 1) := dk_27 (dk_at dksX4_bestCapo_1 18 rfl rfl)
theorem dX4_bestCapo_41 : decode cX4_bestCapo 41 = .ok (.ireturn, 1) := dk_172 (dk_at dksX4_bestCapo_1 19 rfl rfl)
theorem q2416 : (Jvm.Cond.methodLink "ChordSheetModel" (197 : Nat) ({ cls := "ChordSheetModel", name := "difficultyOf", desc := "(I)I" } : Jvm.MethodName)) ∈ lw_all := lw_g (lw_at lw_m10 194 rfl) rfl
theorem q2418 : (Jvm.Cond.instanceMethod ({ cls := "ChordSheetModel", name := "difficultyOf", desc := "(I)I" } : Jvm.MethodName)) ∈ lw_all := lw_g (lw_at lw_m10 196 rfl) rfl
theorem q2419 : (Jvm.Cond.code ({ cls := "ChordSheetModel", name := "difficultyOf", desc := "(I)I" } : Jvm.MethodName) prog_11_method_69_code (9 : Nat) (Option.some Jvm.ClassFile.FieldType.int)) ∈ lw_all := lw_g (lw_at lw_m10 197 rfl) rfl
theorem q2420 : (Jvm.Cond.methodLink "ChordSheetModel" (194 : Nat) ({ cls := "ChordSheetModel", name := "isEasy", desc := "(II)Z" } : Jvm.MethodName)) ∈ lw_all := lw_g (lw_at lw_m10 198 rfl) rfl
theorem q2421 : (Jvm.Cond.static ({ cls := "ChordSheetModel", name := "isEasy", desc := "(II)Z" } : Jvm.MethodName)) ∈ lw_all := lw_g (lw_at lw_m10 199 rfl) rfl
theorem q2422 : (Jvm.Cond.code ({ cls := "ChordSheetModel", name := "isEasy", desc := "(II)Z" } : Jvm.MethodName) prog_11_method_68_code (3 : Nat) (Option.some Jvm.ClassFile.FieldType.boolean)) ∈ lw_all := lw_g (lw_at lw_m10 200 rfl) rfl
theorem iez_A : ∀ r : Nat, r < 12 → ∀ q : Nat, q < 10 → iez (r : Nat) (q : Nat) = if (q = 1 ∨ q = 3) then (if (r = 9 ∨ r = 2 ∨ r = 4) then 1 else 0) else if (q = 0 ∧ ((r = 9 ∨ r = 2 ∨ r = 4) ∨ r = 0 ∨ r = 7)) ∨ (q = 2 ∧ ((r = 9 ∨ r = 2 ∨ r = 4) ∨ r = 0 ∨ r = 7 ∨ r = 11)) then 1 else 0 := by decide
theorem iez_f {r q : Int} (hr : 0 ≤ r ∧ r < 12) (hq : 0 ≤ q ∧ q ≤ 9) : iez r q = if (q = 1 ∨ q = 3) then (if (r = 9 ∨ r = 2 ∨ r = 4) then 1 else 0) else if (q = 0 ∧ ((r = 9 ∨ r = 2 ∨ r = 4) ∨ r = 0 ∨ r = 7)) ∨ (q = 2 ∧ ((r = 9 ∨ r = 2 ∨ r = 4) ∨ r = 0 ∨ r = 7 ∨ r = 11)) then 1 else 0 := by
  have h := iez_A r.toNat (by omega) q.toNat (by omega)
  rw [show ((r.toNat : Nat) : Int) = r by omega, show ((q.toNat : Nat) : Int) = q by omega] at h
  rw [h]
  (repeat' split) <;> omega
theorem bcg_st {cs : List zCh} {f b b' D : Int} (hf : 1 ≤ f ∧ f ≤ 7) (hd : bcg cs (8 - f.toNat) f b (dif b cs) = D) (h : (b' = f ∧ dif f cs < dif b cs) ∨ (b' = b ∧ ¬ dif f cs < dif b cs)) : bcg cs (8 - (f + 1).toNat) (f + 1) b' (dif b' cs) = D := by
  rw [show 8 - f.toNat = (8 - (f + 1).toNat) + 1 by omega, bcg] at hd
  rcases h with ⟨e, h⟩ | ⟨e, h⟩
  · rw [if_pos h, show min (dif b cs) (dif f cs) = dif f cs by omega] at hd; rw [e]; exact hd
  · rw [if_neg h, show min (dif b cs) (dif f cs) = dif b cs by omega] at hd; rw [e]; exact hd
set_option maxHeartbeats 4000000 in
theorem m_easy {l : Launch} (hl : l.stackTraces = false) {Γ : zCx} {h : zH} {r q : Int} (hr : 0 ≤ r ∧ r < 12) (hq : 0 ≤ q ∧ q ≤ 9)  : zMet l yX4_isEasy (ws_ yX4_isEasy cX4_isEasy 3 (some .boolean)) ({ frames := 0, cells := 0, slots := 0, locals := 0 }) Γ h [.int (iI r), .int (iI q)] (zpure h (some (.int (iI (iez r q))))) 0 0 := by
  refine zMet.of (cc := cX4_isEasy) hl (plainFor_of_name (by decide +kernel)) (Nat.le_of_ble_eq_true rfl) ?_
  intro X hXl hXΓ hXp C hnm hnL
  have C : zC X cX4_isEasy RX4 (some .boolean) 0 0 [] := C
  have hnL : X.2.1.2.2.2.2 = 3 := hnL
  subst hXl hXΓ
  show Z X h 0 0 [(0, .int (iI r)), (1, .int (iI q))] 0 []
  refine z_iload_n (pc := 0) (j := 0) C dX4_isEasy_0 rfl rfl ?_
  refine z_bipush (pc := 1) C dX4_isEasy_1 (by decide) ?_
  refine z_icmp_eq (pc := 3) (tgt := 16) C dX4_isEasy_3 (by decide) (by omega) (by decide) (fun c3 => ?_) (fun c3 => ?_)
  · refine z_iconst (pc := 16) C dX4_isEasy_16 ?_
    refine z_goto (pc := 17) (tgt := 21) C dX4_isEasy_17 (by decide) ?_
    refine z_istore_n (pc := 21) (L' := [(2, .int (iI 1)), (0, .int (iI r)), (1, .int (iI q))]) C dX4_isEasy_21 rfl (by rw [hnL]; decide) rfl ?_
    refine z_iload_n (pc := 22) (j := 2) C dX4_isEasy_22 rfl rfl ?_
    refine z_iconst (pc := 23) C dX4_isEasy_23 ?_
    refine z_icmp_eq (pc := 24) (tgt := 32) C dX4_isEasy_24 (by decide) (by omega) (by decide) (fun c24 => ?_) (fun c24 => ?_)
    · refine z_iload_n (pc := 32) (j := 0) C dX4_isEasy_32 rfl rfl ?_
      exact z_zreturn (pc := 33) C (by decide) (by rw [hXp]; exact zpure_i (by rw [iez_f hr hq]; (repeat' split) <;> omega) rfl) dX4_isEasy_33
    · refine z_iload_n (pc := 27) (j := 2) C dX4_isEasy_27 rfl rfl ?_
      refine z_iconst (pc := 28) C dX4_isEasy_28 ?_
      refine z_icmp_ne (pc := 29) (tgt := 34) C dX4_isEasy_29 (by decide) (by omega) (by decide) (fun c29 => ?_) (fun c29 => ?_)
      · refine z_iload_n (pc := 34) (j := 2) C dX4_isEasy_34 rfl rfl ?_
        refine z_if_ne (pc := 35) (tgt := 52) C dX4_isEasy_35 (by decide) (by omega) (fun c35 => ?_) (fun c35 => ?_)
        · refine z_iload_n (pc := 52) (j := 2) C dX4_isEasy_52 rfl rfl ?_
          refine z_iconst (pc := 53) C dX4_isEasy_53 ?_
          refine z_icmp_ne (pc := 54) (tgt := 81) C dX4_isEasy_54 (by decide) (by omega) (by decide) (fun c54 => ?_) (fun c54 => ?_)
          · refine z_iconst (pc := 81) C dX4_isEasy_81 ?_
            exact z_zreturn (pc := 82) C (by decide) (by rw [hXp]; exact zpure_i (by rw [iez_f hr hq]; (repeat' split) <;> omega) rfl) dX4_isEasy_82
          · refine z_iload_n (pc := 57) (j := 0) C dX4_isEasy_57 rfl rfl ?_
            refine z_if_ne (pc := 58) (tgt := 77) C dX4_isEasy_58 (by decide) (by decide) (fun _ => ?_) (fun z => absurd z (by decide))
            refine z_iconst (pc := 77) C dX4_isEasy_77 ?_
            refine z_goto (pc := 78) (tgt := 82) C dX4_isEasy_78 (by decide) ?_
            exact z_zreturn (pc := 82) C (by decide) (by rw [hXp]; exact zpure_i (by rw [iez_f hr hq]; (repeat' split) <;> omega) rfl) dX4_isEasy_82
        · refine z_iload_n (pc := 38) (j := 0) C dX4_isEasy_38 rfl rfl ?_
          refine z_if_ne (pc := 39) (tgt := 77) C dX4_isEasy_39 (by decide) (by decide) (fun _ => ?_) (fun z => absurd z (by decide))
          refine z_iconst (pc := 77) C dX4_isEasy_77 ?_
          refine z_goto (pc := 78) (tgt := 82) C dX4_isEasy_78 (by decide) ?_
          exact z_zreturn (pc := 82) C (by decide) (by rw [hXp]; exact zpure_i (by rw [iez_f hr hq]; (repeat' split) <;> omega) rfl) dX4_isEasy_82
      · refine z_iload_n (pc := 32) (j := 0) C dX4_isEasy_32 rfl rfl ?_
        exact z_zreturn (pc := 33) C (by decide) (by rw [hXp]; exact zpure_i (by rw [iez_f hr hq]; (repeat' split) <;> omega) rfl) dX4_isEasy_33
  · refine z_iload_n (pc := 6) (j := 0) C dX4_isEasy_6 rfl rfl ?_
    refine z_iconst (pc := 7) C dX4_isEasy_7 ?_
    refine z_icmp_eq (pc := 8) (tgt := 16) C dX4_isEasy_8 (by decide) (by omega) (by decide) (fun c8 => ?_) (fun c8 => ?_)
    · refine z_iconst (pc := 16) C dX4_isEasy_16 ?_
      refine z_goto (pc := 17) (tgt := 21) C dX4_isEasy_17 (by decide) ?_
      refine z_istore_n (pc := 21) (L' := [(2, .int (iI 1)), (0, .int (iI r)), (1, .int (iI q))]) C dX4_isEasy_21 rfl (by rw [hnL]; decide) rfl ?_
      refine z_iload_n (pc := 22) (j := 2) C dX4_isEasy_22 rfl rfl ?_
      refine z_iconst (pc := 23) C dX4_isEasy_23 ?_
      refine z_icmp_eq (pc := 24) (tgt := 32) C dX4_isEasy_24 (by decide) (by omega) (by decide) (fun c24 => ?_) (fun c24 => ?_)
      · refine z_iload_n (pc := 32) (j := 0) C dX4_isEasy_32 rfl rfl ?_
        exact z_zreturn (pc := 33) C (by decide) (by rw [hXp]; exact zpure_i (by rw [iez_f hr hq]; (repeat' split) <;> omega) rfl) dX4_isEasy_33
      · refine z_iload_n (pc := 27) (j := 2) C dX4_isEasy_27 rfl rfl ?_
        refine z_iconst (pc := 28) C dX4_isEasy_28 ?_
        refine z_icmp_ne (pc := 29) (tgt := 34) C dX4_isEasy_29 (by decide) (by omega) (by decide) (fun c29 => ?_) (fun c29 => ?_)
        · refine z_iload_n (pc := 34) (j := 2) C dX4_isEasy_34 rfl rfl ?_
          refine z_if_ne (pc := 35) (tgt := 52) C dX4_isEasy_35 (by decide) (by omega) (fun c35 => ?_) (fun c35 => ?_)
          · refine z_iload_n (pc := 52) (j := 2) C dX4_isEasy_52 rfl rfl ?_
            refine z_iconst (pc := 53) C dX4_isEasy_53 ?_
            refine z_icmp_ne (pc := 54) (tgt := 81) C dX4_isEasy_54 (by decide) (by omega) (by decide) (fun c54 => ?_) (fun c54 => ?_)
            · refine z_iconst (pc := 81) C dX4_isEasy_81 ?_
              exact z_zreturn (pc := 82) C (by decide) (by rw [hXp]; exact zpure_i (by rw [iez_f hr hq]; (repeat' split) <;> omega) rfl) dX4_isEasy_82
            · refine z_iload_n (pc := 57) (j := 0) C dX4_isEasy_57 rfl rfl ?_
              refine z_if_ne (pc := 58) (tgt := 77) C dX4_isEasy_58 (by decide) (by decide) (fun _ => ?_) (fun z => absurd z (by decide))
              refine z_iconst (pc := 77) C dX4_isEasy_77 ?_
              refine z_goto (pc := 78) (tgt := 82) C dX4_isEasy_78 (by decide) ?_
              exact z_zreturn (pc := 82) C (by decide) (by rw [hXp]; exact zpure_i (by rw [iez_f hr hq]; (repeat' split) <;> omega) rfl) dX4_isEasy_82
          · refine z_iload_n (pc := 38) (j := 0) C dX4_isEasy_38 rfl rfl ?_
            refine z_if_ne (pc := 39) (tgt := 77) C dX4_isEasy_39 (by decide) (by decide) (fun _ => ?_) (fun z => absurd z (by decide))
            refine z_iconst (pc := 77) C dX4_isEasy_77 ?_
            refine z_goto (pc := 78) (tgt := 82) C dX4_isEasy_78 (by decide) ?_
            exact z_zreturn (pc := 82) C (by decide) (by rw [hXp]; exact zpure_i (by rw [iez_f hr hq]; (repeat' split) <;> omega) rfl) dX4_isEasy_82
        · refine z_iload_n (pc := 32) (j := 0) C dX4_isEasy_32 rfl rfl ?_
          exact z_zreturn (pc := 33) C (by decide) (by rw [hXp]; exact zpure_i (by rw [iez_f hr hq]; (repeat' split) <;> omega) rfl) dX4_isEasy_33
    · refine z_iload_n (pc := 11) (j := 0) C dX4_isEasy_11 rfl rfl ?_
      refine z_iconst (pc := 12) C dX4_isEasy_12 ?_
      refine z_icmp_ne (pc := 13) (tgt := 20) C dX4_isEasy_13 (by decide) (by omega) (by decide) (fun c13 => ?_) (fun c13 => ?_)
      · refine z_iconst (pc := 20) C dX4_isEasy_20 ?_
        refine z_istore_n (pc := 21) (L' := [(2, .int (iI 0)), (0, .int (iI r)), (1, .int (iI q))]) C dX4_isEasy_21 rfl (by rw [hnL]; decide) rfl ?_
        refine z_iload_n (pc := 22) (j := 2) C dX4_isEasy_22 rfl rfl ?_
        refine z_iconst (pc := 23) C dX4_isEasy_23 ?_
        refine z_icmp_eq (pc := 24) (tgt := 32) C dX4_isEasy_24 (by decide) (by omega) (by decide) (fun c24 => ?_) (fun c24 => ?_)
        · refine z_iload_n (pc := 32) (j := 0) C dX4_isEasy_32 rfl rfl ?_
          exact z_zreturn (pc := 33) C (by decide) (by rw [hXp]; exact zpure_i (by rw [iez_f hr hq]; (repeat' split) <;> omega) rfl) dX4_isEasy_33
        · refine z_iload_n (pc := 27) (j := 2) C dX4_isEasy_27 rfl rfl ?_
          refine z_iconst (pc := 28) C dX4_isEasy_28 ?_
          refine z_icmp_ne (pc := 29) (tgt := 34) C dX4_isEasy_29 (by decide) (by omega) (by decide) (fun c29 => ?_) (fun c29 => ?_)
          · refine z_iload_n (pc := 34) (j := 2) C dX4_isEasy_34 rfl rfl ?_
            refine z_if_ne (pc := 35) (tgt := 52) C dX4_isEasy_35 (by decide) (by omega) (fun c35 => ?_) (fun c35 => ?_)
            · refine z_iload_n (pc := 52) (j := 2) C dX4_isEasy_52 rfl rfl ?_
              refine z_iconst (pc := 53) C dX4_isEasy_53 ?_
              refine z_icmp_ne (pc := 54) (tgt := 81) C dX4_isEasy_54 (by decide) (by omega) (by decide) (fun c54 => ?_) (fun c54 => ?_)
              · refine z_iconst (pc := 81) C dX4_isEasy_81 ?_
                exact z_zreturn (pc := 82) C (by decide) (by rw [hXp]; exact zpure_i (by rw [iez_f hr hq]; (repeat' split) <;> omega) rfl) dX4_isEasy_82
              · refine z_iload_n (pc := 57) (j := 0) C dX4_isEasy_57 rfl rfl ?_
                refine z_if_ne (pc := 58) (tgt := 77) C dX4_isEasy_58 (by decide) (by decide) (fun z => absurd z (by decide)) (fun _ => ?_)
                refine z_iload_n (pc := 61) (j := 1) C dX4_isEasy_61 rfl rfl ?_
                refine z_if_eq (pc := 62) (tgt := 77) C dX4_isEasy_62 (by decide) (by omega) (fun c62 => ?_) (fun c62 => ?_)
                · refine z_iconst (pc := 77) C dX4_isEasy_77 ?_
                  refine z_goto (pc := 78) (tgt := 82) C dX4_isEasy_78 (by decide) ?_
                  exact z_zreturn (pc := 82) C (by decide) (by rw [hXp]; exact zpure_i (by rw [iez_f hr hq]; (repeat' split) <;> omega) rfl) dX4_isEasy_82
                · refine z_iload_n (pc := 65) (j := 1) C dX4_isEasy_65 rfl rfl ?_
                  refine z_bipush (pc := 66) C dX4_isEasy_66 (by decide) ?_
                  refine z_icmp_eq (pc := 68) (tgt := 77) C dX4_isEasy_68 (by decide) (by omega) (by decide) (fun c68 => ?_) (fun c68 => ?_)
                  · refine z_iconst (pc := 77) C dX4_isEasy_77 ?_
                    refine z_goto (pc := 78) (tgt := 82) C dX4_isEasy_78 (by decide) ?_
                    exact z_zreturn (pc := 82) C (by decide) (by rw [hXp]; exact zpure_i (by rw [iez_f hr hq]; (repeat' split) <;> omega) rfl) dX4_isEasy_82
                  · refine z_iload_n (pc := 71) (j := 1) C dX4_isEasy_71 rfl rfl ?_
                    refine z_bipush (pc := 72) C dX4_isEasy_72 (by decide) ?_
                    refine z_icmp_ne (pc := 74) (tgt := 81) C dX4_isEasy_74 (by decide) (by omega) (by decide) (fun c74 => ?_) (fun c74 => ?_)
                    · refine z_iconst (pc := 81) C dX4_isEasy_81 ?_
                      exact z_zreturn (pc := 82) C (by decide) (by rw [hXp]; exact zpure_i (by rw [iez_f hr hq]; (repeat' split) <;> omega) rfl) dX4_isEasy_82
                    · refine z_iconst (pc := 77) C dX4_isEasy_77 ?_
                      refine z_goto (pc := 78) (tgt := 82) C dX4_isEasy_78 (by decide) ?_
                      exact z_zreturn (pc := 82) C (by decide) (by rw [hXp]; exact zpure_i (by rw [iez_f hr hq]; (repeat' split) <;> omega) rfl) dX4_isEasy_82
            · refine z_iload_n (pc := 38) (j := 0) C dX4_isEasy_38 rfl rfl ?_
              refine z_if_ne (pc := 39) (tgt := 77) C dX4_isEasy_39 (by decide) (by decide) (fun z => absurd z (by decide)) (fun _ => ?_)
              refine z_iload_n (pc := 42) (j := 1) C dX4_isEasy_42 rfl rfl ?_
              refine z_if_eq (pc := 43) (tgt := 77) C dX4_isEasy_43 (by decide) (by omega) (fun c43 => ?_) (fun c43 => ?_)
              · refine z_iconst (pc := 77) C dX4_isEasy_77 ?_
                refine z_goto (pc := 78) (tgt := 82) C dX4_isEasy_78 (by decide) ?_
                exact z_zreturn (pc := 82) C (by decide) (by rw [hXp]; exact zpure_i (by rw [iez_f hr hq]; (repeat' split) <;> omega) rfl) dX4_isEasy_82
              · refine z_iload_n (pc := 46) (j := 1) C dX4_isEasy_46 rfl rfl ?_
                refine z_bipush (pc := 47) C dX4_isEasy_47 (by decide) ?_
                refine z_icmp_eq (pc := 49) (tgt := 77) C dX4_isEasy_49 (by decide) (by omega) (by decide) (fun c49 => ?_) (fun c49 => ?_)
                · refine z_iconst (pc := 77) C dX4_isEasy_77 ?_
                  refine z_goto (pc := 78) (tgt := 82) C dX4_isEasy_78 (by decide) ?_
                  exact z_zreturn (pc := 82) C (by decide) (by rw [hXp]; exact zpure_i (by rw [iez_f hr hq]; (repeat' split) <;> omega) rfl) dX4_isEasy_82
                · refine z_iload_n (pc := 52) (j := 2) C dX4_isEasy_52 rfl rfl ?_
                  refine z_iconst (pc := 53) C dX4_isEasy_53 ?_
                  refine z_icmp_ne (pc := 54) (tgt := 81) C dX4_isEasy_54 (by decide) (by omega) (by decide) (fun c54 => ?_) (fun c54 => ?_)
                  · refine z_iconst (pc := 81) C dX4_isEasy_81 ?_
                    exact z_zreturn (pc := 82) C (by decide) (by rw [hXp]; exact zpure_i (by rw [iez_f hr hq]; (repeat' split) <;> omega) rfl) dX4_isEasy_82
                  · refine z_iload_n (pc := 57) (j := 0) C dX4_isEasy_57 rfl rfl ?_
                    refine z_if_ne (pc := 58) (tgt := 77) C dX4_isEasy_58 (by decide) (by decide) (fun z => absurd z (by decide)) (fun _ => ?_)
                    refine z_iload_n (pc := 61) (j := 1) C dX4_isEasy_61 rfl rfl ?_
                    refine z_if_eq (pc := 62) (tgt := 77) C dX4_isEasy_62 (by decide) (by omega) (fun c62 => ?_) (fun c62 => ?_)
                    · refine z_iconst (pc := 77) C dX4_isEasy_77 ?_
                      refine z_goto (pc := 78) (tgt := 82) C dX4_isEasy_78 (by decide) ?_
                      exact z_zreturn (pc := 82) C (by decide) (by rw [hXp]; exact zpure_i (by rw [iez_f hr hq]; (repeat' split) <;> omega) rfl) dX4_isEasy_82
                    · refine z_iload_n (pc := 65) (j := 1) C dX4_isEasy_65 rfl rfl ?_
                      refine z_bipush (pc := 66) C dX4_isEasy_66 (by decide) ?_
                      refine z_icmp_eq (pc := 68) (tgt := 77) C dX4_isEasy_68 (by decide) (by omega) (by decide) (fun c68 => ?_) (fun c68 => ?_)
                      · refine z_iconst (pc := 77) C dX4_isEasy_77 ?_
                        refine z_goto (pc := 78) (tgt := 82) C dX4_isEasy_78 (by decide) ?_
                        exact z_zreturn (pc := 82) C (by decide) (by rw [hXp]; exact zpure_i (by rw [iez_f hr hq]; (repeat' split) <;> omega) rfl) dX4_isEasy_82
                      · refine z_iload_n (pc := 71) (j := 1) C dX4_isEasy_71 rfl rfl ?_
                        refine z_bipush (pc := 72) C dX4_isEasy_72 (by decide) ?_
                        refine z_icmp_ne (pc := 74) (tgt := 81) C dX4_isEasy_74 (by decide) (by omega) (by decide) (fun c74 => ?_) (fun c74 => ?_)
                        · refine z_iconst (pc := 81) C dX4_isEasy_81 ?_
                          exact z_zreturn (pc := 82) C (by decide) (by rw [hXp]; exact zpure_i (by rw [iez_f hr hq]; (repeat' split) <;> omega) rfl) dX4_isEasy_82
                        · refine z_iconst (pc := 77) C dX4_isEasy_77 ?_
                          refine z_goto (pc := 78) (tgt := 82) C dX4_isEasy_78 (by decide) ?_
                          exact z_zreturn (pc := 82) C (by decide) (by rw [hXp]; exact zpure_i (by rw [iez_f hr hq]; (repeat' split) <;> omega) rfl) dX4_isEasy_82
          · refine z_iload_n (pc := 32) (j := 0) C dX4_isEasy_32 rfl rfl ?_
            exact z_zreturn (pc := 33) C (by decide) (by rw [hXp]; exact zpure_i (by rw [iez_f hr hq]; (repeat' split) <;> omega) rfl) dX4_isEasy_33
      · refine z_iconst (pc := 16) C dX4_isEasy_16 ?_
        refine z_goto (pc := 17) (tgt := 21) C dX4_isEasy_17 (by decide) ?_
        refine z_istore_n (pc := 21) (L' := [(2, .int (iI 1)), (0, .int (iI r)), (1, .int (iI q))]) C dX4_isEasy_21 rfl (by rw [hnL]; decide) rfl ?_
        refine z_iload_n (pc := 22) (j := 2) C dX4_isEasy_22 rfl rfl ?_
        refine z_iconst (pc := 23) C dX4_isEasy_23 ?_
        refine z_icmp_eq (pc := 24) (tgt := 32) C dX4_isEasy_24 (by decide) (by omega) (by decide) (fun c24 => ?_) (fun c24 => ?_)
        · refine z_iload_n (pc := 32) (j := 0) C dX4_isEasy_32 rfl rfl ?_
          exact z_zreturn (pc := 33) C (by decide) (by rw [hXp]; exact zpure_i (by rw [iez_f hr hq]; (repeat' split) <;> omega) rfl) dX4_isEasy_33
        · refine z_iload_n (pc := 27) (j := 2) C dX4_isEasy_27 rfl rfl ?_
          refine z_iconst (pc := 28) C dX4_isEasy_28 ?_
          refine z_icmp_ne (pc := 29) (tgt := 34) C dX4_isEasy_29 (by decide) (by omega) (by decide) (fun c29 => ?_) (fun c29 => ?_)
          · refine z_iload_n (pc := 34) (j := 2) C dX4_isEasy_34 rfl rfl ?_
            refine z_if_ne (pc := 35) (tgt := 52) C dX4_isEasy_35 (by decide) (by omega) (fun c35 => ?_) (fun c35 => ?_)
            · refine z_iload_n (pc := 52) (j := 2) C dX4_isEasy_52 rfl rfl ?_
              refine z_iconst (pc := 53) C dX4_isEasy_53 ?_
              refine z_icmp_ne (pc := 54) (tgt := 81) C dX4_isEasy_54 (by decide) (by omega) (by decide) (fun c54 => ?_) (fun c54 => ?_)
              · refine z_iconst (pc := 81) C dX4_isEasy_81 ?_
                exact z_zreturn (pc := 82) C (by decide) (by rw [hXp]; exact zpure_i (by rw [iez_f hr hq]; (repeat' split) <;> omega) rfl) dX4_isEasy_82
              · refine z_iload_n (pc := 57) (j := 0) C dX4_isEasy_57 rfl rfl ?_
                refine z_if_ne (pc := 58) (tgt := 77) C dX4_isEasy_58 (by decide) (by decide) (fun _ => ?_) (fun z => absurd z (by decide))
                refine z_iconst (pc := 77) C dX4_isEasy_77 ?_
                refine z_goto (pc := 78) (tgt := 82) C dX4_isEasy_78 (by decide) ?_
                exact z_zreturn (pc := 82) C (by decide) (by rw [hXp]; exact zpure_i (by rw [iez_f hr hq]; (repeat' split) <;> omega) rfl) dX4_isEasy_82
            · refine z_iload_n (pc := 38) (j := 0) C dX4_isEasy_38 rfl rfl ?_
              refine z_if_ne (pc := 39) (tgt := 77) C dX4_isEasy_39 (by decide) (by decide) (fun _ => ?_) (fun z => absurd z (by decide))
              refine z_iconst (pc := 77) C dX4_isEasy_77 ?_
              refine z_goto (pc := 78) (tgt := 82) C dX4_isEasy_78 (by decide) ?_
              exact z_zreturn (pc := 82) C (by decide) (by rw [hXp]; exact zpure_i (by rw [iez_f hr hq]; (repeat' split) <;> omega) rfl) dX4_isEasy_82
          · refine z_iload_n (pc := 32) (j := 0) C dX4_isEasy_32 rfl rfl ?_
            exact z_zreturn (pc := 33) C (by decide) (by rw [hXp]; exact zpure_i (by rw [iez_f hr hq]; (repeat' split) <;> omega) rfl) dX4_isEasy_33
set_option maxHeartbeats 4000000 in
theorem m_dif {l : Launch} (hl : l.stackTraces = false) {Γ : zCx} {h : zH} {A : zMA} {st ty si ff wd th ap nt rr rq rb wh nd up lo : Int} {V P T M N U W : Nat → Int} (hM : mM h A st ty si ff wd th ap nt rr rq rb wh nd up lo V P T M N U W) {S : zSh} (hS : vS V S) (hsl : shL S) (hsr : shR S) {f : Int} (hf : 0 ≤ f ∧ f ≤ 7)  : zMet l yX4_difficultyOf (ws_ yX4_difficultyOf cX4_difficultyOf 9 (some .int)) ({ frames := 2, cells := 0, slots := 0, locals := 40 }) Γ h [.ref A.m, .int (iI f)] (zpure h (some (.int (iI (dif f S.cs))))) 0 0 := by
  refine zMet.of (cc := cX4_difficultyOf) hl (plainFor_of_name (by decide +kernel)) (Nat.le_of_ble_eq_true rfl) ?_
  intro X hXl hXΓ hXp C hnm hnL
  have C : zC X cX4_difficultyOf RX4 (some .int) 2 40 [] := C
  have hnL : X.2.1.2.2.2.2 = 9 := hnL
  subst hXl hXΓ
  show Z X h 0 0 [(0, .ref A.m), (1, .int (iI f))] 0 []
  obtain ⟨gm_1, gv_1, gpa_1, gtx_1, gma_1, gna_1, gua_1, gla_1, gle_1, gqa_1, gd_1⟩ := id hM
  obtain ⟨hsl1, hsl2, hsl3⟩ := id hsl
  refine z_iload_n (pc := 0) (j := 1) C dX4_difficultyOf_0 rfl rfl ?_
  refine z_istore_n (pc := 1) (L' := [(2, .int (iI f)), (0, .ref A.m), (1, .int (iI f))]) C dX4_difficultyOf_1 rfl (by rw [hnL]; decide) rfl ?_
  refine z_iconst (pc := 2) C dX4_difficultyOf_2 ?_
  refine z_istore_n (pc := 3) (L' := [(3, .int (iI 0)), (2, .int (iI f)), (0, .ref A.m), (1, .int (iI f))]) C dX4_difficultyOf_3 rfl (by rw [hnL]; decide) rfl ?_
  refine z_iconst (pc := 4) C dX4_difficultyOf_4 ?_
  refine z_istore (pc := 5) (L' := [(4, .int (iI (-1))), (3, .int (iI 0)), (2, .int (iI f)), (0, .ref A.m), (1, .int (iI f))]) C dX4_difficultyOf_5 (by rw [hnL]; decide) rfl ?_
  refine z_iconst (pc := 7) C dX4_difficultyOf_7 ?_
  refine z_istore (pc := 8) (L' := [(5, .int (iI 0)), (4, .int (iI (-1))), (3, .int (iI 0)), (2, .int (iI f)), (0, .ref A.m), (1, .int (iI f))]) C dX4_difficultyOf_8 (by rw [hnL]; decide) rfl ?_
  have loop10 : ∀ (n10 : Nat) (i : Int) (z : Int) (wz : Int) (l : Int) (last : Option zCh), (0 ≤ i ∧ i ≤ (S.cs.length : Nat)) → (z + trs f last (S.cs.drop i.toNat) + sds f (S.cs.drop i.toNat) = dif f S.cs) → ((i = 0 ∧ wz = 0 ∧ l = -1 ∧ last = none) ∨ ∃ y : zCh, 0 < i ∧ last = some y ∧ l = shr y.2.2.1 f ∧ wz = (if iez (shr y.2.2.1 f) y.2.2.2.1 = 0 then 1 else 0)) → (((S.cs.length : Nat) - i).toNat) = n10 → Z X h 0 0 [(5, .int (iI i)), (4, .int (iI l)), (3, .int (iI wz)), (2, .int (iI z)), (1, .int (iI f)), (0, .ref A.m)] 10 [] := by
    intro n10
    induction n10 using Nat.strongRecOn with
    | ind n10 ih10 =>
    intro i z wz l last hi hd hl_ hn10
    refine z_iload (pc := 10) (j := 0) C dX4_difficultyOf_10 rfl ?_
    refine z_aload_n (pc := 12) (j := 5) C dX4_difficultyOf_12 rfl rfl ?_
    refine z_getfield (pc := 13) (v := .ref A.v) C in_X4 rfl 0 (by decide) q2082 (fun _ z => z) gm_1 rfl dX4_difficultyOf_13 ?_
    refine z_iconst (pc := 16) C dX4_difficultyOf_16 ?_
    refine z_iaload (pc := 17) (v := .int (iI ((S.cs.length : Nat) : Int))) C gv_1 (by omega) (mA_e (vE hS.2.1 (by omega))) dX4_difficultyOf_17 ?_
    refine z_icmp_ge (pc := 18) (tgt := 194) C dX4_difficultyOf_18 (by decide) (by omega) (by omega) (fun c18 => ?_) (fun c18 => ?_)
    · refine z_iload_n (pc := 194) (j := 3) C dX4_difficultyOf_194 rfl rfl ?_
      exact z_ireturn (pc := 195) C (by rw [hXp]; exact zpure_i (by rw [List.drop_of_length_le (by omega), sds] at hd; cases last <;> simp only [trs] at hd <;> omega) rfl) dX4_difficultyOf_195
    · obtain ⟨c_2, hc_2⟩ : ∃ x, S.cs[(i).toNat]? = some x := ⟨_, List.getElem?_eq_getElem (by omega)⟩
      obtain ⟨hx1_2, hx2_2, hx3_2, hx4_2, hx5_2⟩ := hS.c (i := i) (by omega) hc_2
      obtain ⟨xr1_2, xr2_2, xr3_2, xr4_2, xr5_2⟩ := hsr.2.1 _ (List.mem_of_getElem? hc_2)
      have hds := drop_step hc_2 (by omega)
      rw [hds] at hd
      have hsr := shr_r c_2.2.2.1 f
      have hlb : -1 ≤ l ∧ l ≤ 11 ∧ (wz = 0 ∨ wz = 1) := by
        rcases hl_ with ⟨a1, a2, a3, a4⟩ | ⟨y, a1, a2, a3, a4⟩
        · omega
        · have := shr_r y.2.2.1 f
          rw [a3, a4]; split <;> omega
      refine z_iload (pc := 21) (j := 0) C dX4_difficultyOf_21 rfl ?_
      refine z_callS (pc := 23) (n := 1) (kc' := 0) (ks' := 0) C (m_chord C.t (x := i)) (lw_S q2203 q2204 q74 q2205) (by decide +kernel) ⟨by decide, by decide⟩ rfl rfl (Nat.le_of_ble_eq_true rfl) dX4_difficultyOf_23 (by omega) (by omega) (zpk (st' := [.int (iI (210 + 5 * i))]) rfl ?_) zrx
      refine z_istore (pc := 26) (L' := [(6, .int (iI (210 + 5 * i))), (5, .int (iI i)), (4, .int (iI l)), (3, .int (iI wz)), (2, .int (iI z)), (1, .int (iI f)), (0, .ref A.m)]) C dX4_difficultyOf_26 (by rw [hnL]; decide) rfl ?_
      refine z_aload_n (pc := 28) (j := 6) C dX4_difficultyOf_28 rfl rfl ?_
      refine z_getfield (pc := 29) (v := .ref A.v) C in_X4 rfl 0 (by decide) q2082 (fun _ z => z) gm_1 rfl dX4_difficultyOf_29 ?_
      refine z_iload (pc := 32) (j := 0) C dX4_difficultyOf_32 rfl ?_
      refine z_iconst (pc := 34) C dX4_difficultyOf_34 ?_
      refine z_iadd (pc := 35) C dX4_difficultyOf_35 ?_
      refine z_iaload (pc := 36) (v := .int (iI c_2.2.2.1)) C gv_1 (by omega) (mA_e (vE hx3_2 (by omega))) dX4_difficultyOf_36 ?_
      refine z_callS (pc := 37) (n := 1) (kc' := 0) (ks' := 0) C (m_pitch C.t (x := c_2.2.2.1) (by omega)) (lw_S q2218 q2219 q74 q2220) (by decide +kernel) ⟨by decide, by decide⟩ rfl rfl (Nat.le_of_ble_eq_true rfl) dX4_difficultyOf_37 (by omega) (by omega) (zpk (st' := [.int (iI (pcl c_2.2.2.1))]) rfl ?_) zrx
      have hpcl40 := pcl_r c_2.2.2.1
      refine z_iload_n (pc := 40) (j := 5) C dX4_difficultyOf_40 rfl rfl ?_
      refine z_isub (pc := 41) C dX4_difficultyOf_41 ?_
      refine z_callS (pc := 42) (n := 1) (kc' := 0) (ks' := 0) C (m_mod C.t (x := (pcl c_2.2.2.1) - f) (by omega)) (lw_S q2221 q2222 q74 q2223) (by decide +kernel) ⟨by decide, by decide⟩ rfl rfl (Nat.le_of_ble_eq_true rfl) dX4_difficultyOf_42 (by omega) (by omega) (zpk (st' := [.int (iI (((pcl c_2.2.2.1) - f) % 12))]) rfl ?_) zrx
      rw [show ((((pcl c_2.2.2.1) - f) % 12) : Int) = shr c_2.2.2.1 f from rfl]
      show Z X h 0 0 [(6, .int (iI (210 + 5 * i))), (5, .int (iI i)), (4, .int (iI l)), (3, .int (iI wz)), (2, .int (iI z)), (1, .int (iI f)), (0, .ref A.m)] 45 [.int (iI (shr c_2.2.2.1 f))]
      refine z_istore (pc := 45) (L' := [(7, .int (iI (shr c_2.2.2.1 f))), (6, .int (iI (210 + 5 * i))), (5, .int (iI i)), (4, .int (iI l)), (3, .int (iI wz)), (2, .int (iI z)), (1, .int (iI f)), (0, .ref A.m)]) C dX4_difficultyOf_45 (by rw [hnL]; decide) rfl ?_
      refine z_iload (pc := 47) (j := 0) C dX4_difficultyOf_47 rfl ?_
      refine z_aload_n (pc := 49) (j := 7) C dX4_difficultyOf_49 rfl rfl ?_
      refine z_getfield (pc := 50) (v := .ref A.v) C in_X4 rfl 0 (by decide) q2082 (fun _ z => z) gm_1 rfl dX4_difficultyOf_50 ?_
      refine z_iload (pc := 53) (j := 1) C dX4_difficultyOf_53 rfl ?_
      refine z_iconst (pc := 55) C dX4_difficultyOf_55 ?_
      refine z_iadd (pc := 56) C dX4_difficultyOf_56 ?_
      refine z_iaload (pc := 57) (v := .int (iI c_2.2.2.2.1)) C gv_1 (by omega) (mA_e (vE hx4_2 (by omega))) dX4_difficultyOf_57 ?_
      refine z_callS (pc := 58) (n := 2) (kc' := 0) (ks' := 0) C (m_easy C.t (r := shr c_2.2.2.1 f) (q := c_2.2.2.2.1) (by omega) (by omega)) (lw_S q2420 q2421 q74 q2422) (by decide +kernel) ⟨by decide, by decide⟩ rfl rfl (Nat.le_of_ble_eq_true rfl) dX4_difficultyOf_58 (by omega) (by omega) (zpk (st' := [.int (iI (iez (shr c_2.2.2.1 f) c_2.2.2.2.1))]) rfl ?_) zrx
      have hez61 := iez_r (shr c_2.2.2.1 f) c_2.2.2.2.1
      refine z_if_ne (pc := 61) (tgt := 68) C dX4_difficultyOf_61 (by decide) (by omega) (fun c61 => ?_) (fun c61 => ?_)
      · refine z_iconst (pc := 68) C dX4_difficultyOf_68 ?_
        refine z_istore (pc := 69) (L' := [(8, .int (iI 0)), (7, .int (iI (shr c_2.2.2.1 f))), (6, .int (iI (210 + 5 * i))), (5, .int (iI i)), (4, .int (iI l)), (3, .int (iI wz)), (2, .int (iI z)), (1, .int (iI f)), (0, .ref A.m)]) C dX4_difficultyOf_69 (by rw [hnL]; decide) rfl ?_
        refine z_iload_n (pc := 71) (j := 6) C dX4_difficultyOf_71 rfl rfl ?_
        refine z_iload (pc := 72) (j := 0) C dX4_difficultyOf_72 rfl ?_
        refine z_if_eq (pc := 74) (tgt := 81) C dX4_difficultyOf_74 (by decide) (by decide) (fun _ => ?_) (fun z => absurd z (by decide))
        refine z_iconst (pc := 81) C dX4_difficultyOf_81 ?_
        refine z_aload_n (pc := 82) (j := 8) C dX4_difficultyOf_82 rfl rfl ?_
        refine z_getfield (pc := 83) (v := .ref A.v) C in_X4 rfl 0 (by decide) q2082 (fun _ z => z) gm_1 rfl dX4_difficultyOf_83 ?_
        refine z_iload (pc := 86) (j := 2) C dX4_difficultyOf_86 rfl ?_
        refine z_iconst (pc := 88) C dX4_difficultyOf_88 ?_
        refine z_iadd (pc := 89) C dX4_difficultyOf_89 ?_
        refine z_iaload (pc := 90) (v := .int (iI c_2.2.2.2.1)) C gv_1 (by omega) (mA_e (vE hx4_2 (by omega))) dX4_difficultyOf_90 ?_
        refine z_iconst (pc := 91) C dX4_difficultyOf_91 ?_
        refine z_icmp_le (pc := 92) (tgt := 99) C dX4_difficultyOf_92 (by decide) (by omega) (by decide) (fun c92 => ?_) (fun c92 => ?_)
        · refine z_iconst (pc := 99) C dX4_difficultyOf_99 ?_
          refine z_iadd (pc := 100) C dX4_difficultyOf_100 ?_
          refine z_iadd (pc := 101) C dX4_difficultyOf_101 ?_
          refine z_istore_n (pc := 102) (L' := [(2, .int (iI (z + (1 + 0)))), (8, .int (iI 0)), (7, .int (iI (shr c_2.2.2.1 f))), (6, .int (iI (210 + 5 * i))), (5, .int (iI i)), (4, .int (iI l)), (3, .int (iI wz)), (1, .int (iI f)), (0, .ref A.m)]) C dX4_difficultyOf_102 rfl (by rw [hnL]; decide) rfl ?_
          refine z_iload_n (pc := 103) (j := 0) C dX4_difficultyOf_103 rfl rfl ?_
          refine z_aload_n (pc := 104) (j := 8) C dX4_difficultyOf_104 rfl rfl ?_
          refine z_getfield (pc := 105) (v := .ref A.v) C in_X4 rfl 0 (by decide) q2082 (fun _ z => z) gm_1 rfl dX4_difficultyOf_105 ?_
          refine z_iload (pc := 108) (j := 3) C dX4_difficultyOf_108 rfl ?_
          refine z_iconst (pc := 110) C dX4_difficultyOf_110 ?_
          refine z_iadd (pc := 111) C dX4_difficultyOf_111 ?_
          refine z_iaload (pc := 112) (v := .int (iI c_2.2.2.2.2)) C gv_1 (by omega) (mA_e (vE hx5_2 (by omega))) dX4_difficultyOf_112 ?_
          refine z_bipush (pc := 113) C dX4_difficultyOf_113 (by decide) ?_
          refine z_icmp_eq (pc := 115) (tgt := 149) C dX4_difficultyOf_115 (by decide) (by omega) (by decide) (fun c115 => ?_) (fun c115 => ?_)
          · refine z_iconst (pc := 149) C dX4_difficultyOf_149 ?_
            refine z_iadd (pc := 150) C dX4_difficultyOf_150 ?_
            refine z_istore_n (pc := 151) (L' := [(2, .int (iI ((z + (1 + 0)) + 0))), (8, .int (iI 0)), (7, .int (iI (shr c_2.2.2.1 f))), (6, .int (iI (210 + 5 * i))), (5, .int (iI i)), (4, .int (iI l)), (3, .int (iI wz)), (1, .int (iI f)), (0, .ref A.m)]) C dX4_difficultyOf_151 rfl (by rw [hnL]; decide) rfl ?_
            refine z_iload_n (pc := 152) (j := 0) C dX4_difficultyOf_152 rfl rfl ?_
            refine z_iload (pc := 153) (j := 4) C dX4_difficultyOf_153 rfl ?_
            refine z_if_le (pc := 155) (tgt := 178) C dX4_difficultyOf_155 (by decide) (by omega) (fun c155 => ?_) (fun c155 => ?_)
            · refine z_iconst (pc := 178) C dX4_difficultyOf_178 ?_
              refine z_iadd (pc := 179) C dX4_difficultyOf_179 ?_
              refine z_istore_n (pc := 180) (L' := [(2, .int (iI (((z + (1 + 0)) + 0) + 0))), (8, .int (iI 0)), (7, .int (iI (shr c_2.2.2.1 f))), (6, .int (iI (210 + 5 * i))), (5, .int (iI i)), (4, .int (iI l)), (3, .int (iI wz)), (1, .int (iI f)), (0, .ref A.m)]) C dX4_difficultyOf_180 rfl (by rw [hnL]; decide) rfl ?_
              have hdn : ((z + (1 + 0)) + 0) + 0 + trs f (some c_2) (S.cs.drop (i + 1).toNat) + sds f (S.cs.drop (i + 1).toNat) = dif f S.cs := by
                rw [← hd, sds, sdx]
                have hsd : sdf (shr c_2.2.2.1 f) c_2.2.2.2.1 (shb c_2.2.2.1 c_2.2.2.2.2) = (if iez (shr c_2.2.2.1 f) c_2.2.2.2.1 = 1 then 1 else 4) + (if 3 < c_2.2.2.2.1 then 1 else 0) + (if c_2.2.2.2.2 ≠ 100 ∧ pcl c_2.2.2.2.2 ≠ pcl c_2.2.2.1 then 1 else 0) := rfl
                rw [hsd]
                rcases hl_ with ⟨a1, a2, a3, a4⟩ | ⟨y, a1, a2, a3, a4⟩
                · rw [a4, trs]; (repeat' split) <;> omega
                · rw [a2, trs, trd]; split at a4 <;> (repeat' split) <;> omega
              refine z_iload (pc := 181) (j := 1) C dX4_difficultyOf_181 rfl ?_
              refine z_istore_n (pc := 183) (L' := [(3, .int (iI 0)), (2, .int (iI (((z + (1 + 0)) + 0) + 0))), (8, .int (iI 0)), (7, .int (iI (shr c_2.2.2.1 f))), (6, .int (iI (210 + 5 * i))), (5, .int (iI i)), (4, .int (iI l)), (1, .int (iI f)), (0, .ref A.m)]) C dX4_difficultyOf_183 rfl (by rw [hnL]; decide) rfl ?_
              refine z_iload (pc := 184) (j := 3) C dX4_difficultyOf_184 rfl ?_
              refine z_istore (pc := 186) (L' := [(4, .int (iI (shr c_2.2.2.1 f))), (3, .int (iI 0)), (2, .int (iI (((z + (1 + 0)) + 0) + 0))), (8, .int (iI 0)), (7, .int (iI (shr c_2.2.2.1 f))), (6, .int (iI (210 + 5 * i))), (5, .int (iI i)), (1, .int (iI f)), (0, .ref A.m)]) C dX4_difficultyOf_186 (by rw [hnL]; decide) rfl ?_
              refine z_iinc (pc := 188) (k := 6) (L' := [(5, .int (iI (i + 1))), (4, .int (iI (shr c_2.2.2.1 f))), (3, .int (iI 0)), (2, .int (iI (((z + (1 + 0)) + 0) + 0))), (8, .int (iI 0)), (7, .int (iI (shr c_2.2.2.1 f))), (6, .int (iI (210 + 5 * i))), (1, .int (iI f)), (0, .ref A.m)]) C dX4_difficultyOf_188 rfl (by rw [hnL]; decide) rfl ?_
              refine z_goto (pc := 191) (tgt := 10) C dX4_difficultyOf_191 (by decide) ?_
              refine Z.weak (L' := [(5, .int (iI (i + 1))), (4, .int (iI (shr c_2.2.2.1 f))), (3, .int (iI 0)), (2, .int (iI (((z + (1 + 0)) + 0) + 0))), (1, .int (iI f)), (0, .ref A.m)]) (kc' := 0) (ks' := 0) [0, 1, 2, 3, 7, 8] rfl (by omega) (by omega) ?_
              exact ih10 _ (by omega) (i + 1) (((z + (1 + 0)) + 0) + 0) 0 (shr c_2.2.2.1 f) (some c_2) (by omega) hdn (Or.inr ⟨c_2, by omega, rfl, rfl, by split <;> omega⟩) rfl
            · refine z_iload (pc := 158) (j := 1) C dX4_difficultyOf_158 rfl ?_
              refine z_if_eq (pc := 160) (tgt := 178) C dX4_difficultyOf_160 (by decide) (by decide) (fun _ => ?_) (fun z => absurd z (by decide))
              refine z_iconst (pc := 178) C dX4_difficultyOf_178 ?_
              refine z_iadd (pc := 179) C dX4_difficultyOf_179 ?_
              refine z_istore_n (pc := 180) (L' := [(2, .int (iI (((z + (1 + 0)) + 0) + 0))), (8, .int (iI 0)), (7, .int (iI (shr c_2.2.2.1 f))), (6, .int (iI (210 + 5 * i))), (5, .int (iI i)), (4, .int (iI l)), (3, .int (iI wz)), (1, .int (iI f)), (0, .ref A.m)]) C dX4_difficultyOf_180 rfl (by rw [hnL]; decide) rfl ?_
              have hdn : ((z + (1 + 0)) + 0) + 0 + trs f (some c_2) (S.cs.drop (i + 1).toNat) + sds f (S.cs.drop (i + 1).toNat) = dif f S.cs := by
                rw [← hd, sds, sdx]
                have hsd : sdf (shr c_2.2.2.1 f) c_2.2.2.2.1 (shb c_2.2.2.1 c_2.2.2.2.2) = (if iez (shr c_2.2.2.1 f) c_2.2.2.2.1 = 1 then 1 else 4) + (if 3 < c_2.2.2.2.1 then 1 else 0) + (if c_2.2.2.2.2 ≠ 100 ∧ pcl c_2.2.2.2.2 ≠ pcl c_2.2.2.1 then 1 else 0) := rfl
                rw [hsd]
                rcases hl_ with ⟨a1, a2, a3, a4⟩ | ⟨y, a1, a2, a3, a4⟩
                · rw [a4, trs]; (repeat' split) <;> omega
                · rw [a2, trs, trd]; split at a4 <;> (repeat' split) <;> omega
              refine z_iload (pc := 181) (j := 1) C dX4_difficultyOf_181 rfl ?_
              refine z_istore_n (pc := 183) (L' := [(3, .int (iI 0)), (2, .int (iI (((z + (1 + 0)) + 0) + 0))), (8, .int (iI 0)), (7, .int (iI (shr c_2.2.2.1 f))), (6, .int (iI (210 + 5 * i))), (5, .int (iI i)), (4, .int (iI l)), (1, .int (iI f)), (0, .ref A.m)]) C dX4_difficultyOf_183 rfl (by rw [hnL]; decide) rfl ?_
              refine z_iload (pc := 184) (j := 3) C dX4_difficultyOf_184 rfl ?_
              refine z_istore (pc := 186) (L' := [(4, .int (iI (shr c_2.2.2.1 f))), (3, .int (iI 0)), (2, .int (iI (((z + (1 + 0)) + 0) + 0))), (8, .int (iI 0)), (7, .int (iI (shr c_2.2.2.1 f))), (6, .int (iI (210 + 5 * i))), (5, .int (iI i)), (1, .int (iI f)), (0, .ref A.m)]) C dX4_difficultyOf_186 (by rw [hnL]; decide) rfl ?_
              refine z_iinc (pc := 188) (k := 6) (L' := [(5, .int (iI (i + 1))), (4, .int (iI (shr c_2.2.2.1 f))), (3, .int (iI 0)), (2, .int (iI (((z + (1 + 0)) + 0) + 0))), (8, .int (iI 0)), (7, .int (iI (shr c_2.2.2.1 f))), (6, .int (iI (210 + 5 * i))), (1, .int (iI f)), (0, .ref A.m)]) C dX4_difficultyOf_188 rfl (by rw [hnL]; decide) rfl ?_
              refine z_goto (pc := 191) (tgt := 10) C dX4_difficultyOf_191 (by decide) ?_
              refine Z.weak (L' := [(5, .int (iI (i + 1))), (4, .int (iI (shr c_2.2.2.1 f))), (3, .int (iI 0)), (2, .int (iI (((z + (1 + 0)) + 0) + 0))), (1, .int (iI f)), (0, .ref A.m)]) (kc' := 0) (ks' := 0) [0, 1, 2, 3, 7, 8] rfl (by omega) (by omega) ?_
              exact ih10 _ (by omega) (i + 1) (((z + (1 + 0)) + 0) + 0) 0 (shr c_2.2.2.1 f) (some c_2) (by omega) hdn (Or.inr ⟨c_2, by omega, rfl, rfl, by split <;> omega⟩) rfl
          · refine z_aload_n (pc := 118) (j := 8) C dX4_difficultyOf_118 rfl rfl ?_
            refine z_getfield (pc := 119) (v := .ref A.v) C in_X4 rfl 0 (by decide) q2082 (fun _ z => z) gm_1 rfl dX4_difficultyOf_119 ?_
            refine z_iload (pc := 122) (j := 3) C dX4_difficultyOf_122 rfl ?_
            refine z_iconst (pc := 124) C dX4_difficultyOf_124 ?_
            refine z_iadd (pc := 125) C dX4_difficultyOf_125 ?_
            refine z_iaload (pc := 126) (v := .int (iI c_2.2.2.2.2)) C gv_1 (by omega) (mA_e (vE hx5_2 (by omega))) dX4_difficultyOf_126 ?_
            refine z_callS (pc := 127) (n := 1) (kc' := 0) (ks' := 0) C (m_pitch C.t (x := c_2.2.2.2.2) (by omega)) (lw_S q2218 q2219 q74 q2220) (by decide +kernel) ⟨by decide, by decide⟩ rfl rfl (Nat.le_of_ble_eq_true rfl) dX4_difficultyOf_127 (by omega) (by omega) (zpk (st' := [.int (iI (pcl c_2.2.2.2.2)), .int (iI (z + (1 + 0)))]) rfl ?_) zrx
            have hpcl130 := pcl_r c_2.2.2.2.2
            refine z_aload_n (pc := 130) (j := 8) C dX4_difficultyOf_130 rfl rfl ?_
            refine z_getfield (pc := 131) (v := .ref A.v) C in_X4 rfl 0 (by decide) q2082 (fun _ z => z) gm_1 rfl dX4_difficultyOf_131 ?_
            refine z_iload (pc := 134) (j := 3) C dX4_difficultyOf_134 rfl ?_
            refine z_iconst (pc := 136) C dX4_difficultyOf_136 ?_
            refine z_iadd (pc := 137) C dX4_difficultyOf_137 ?_
            refine z_iaload (pc := 138) (v := .int (iI c_2.2.2.1)) C gv_1 (by omega) (mA_e (vE hx3_2 (by omega))) dX4_difficultyOf_138 ?_
            refine z_callS (pc := 139) (n := 1) (kc' := 0) (ks' := 0) C (m_pitch C.t (x := c_2.2.2.1) (by omega)) (lw_S q2218 q2219 q74 q2220) (by decide +kernel) ⟨by decide, by decide⟩ rfl rfl (Nat.le_of_ble_eq_true rfl) dX4_difficultyOf_139 (by omega) (by omega) (zpk (st' := [.int (iI (pcl c_2.2.2.1)), .int (iI (pcl c_2.2.2.2.2)), .int (iI (z + (1 + 0)))]) rfl ?_) zrx
            have hpcl142 := pcl_r c_2.2.2.1
            refine z_icmp_eq (pc := 142) (tgt := 149) C dX4_difficultyOf_142 (by decide) (by omega) (by omega) (fun c142 => ?_) (fun c142 => ?_)
            · refine z_iconst (pc := 149) C dX4_difficultyOf_149 ?_
              refine z_iadd (pc := 150) C dX4_difficultyOf_150 ?_
              refine z_istore_n (pc := 151) (L' := [(2, .int (iI ((z + (1 + 0)) + 0))), (8, .int (iI 0)), (7, .int (iI (shr c_2.2.2.1 f))), (6, .int (iI (210 + 5 * i))), (5, .int (iI i)), (4, .int (iI l)), (3, .int (iI wz)), (1, .int (iI f)), (0, .ref A.m)]) C dX4_difficultyOf_151 rfl (by rw [hnL]; decide) rfl ?_
              refine z_iload_n (pc := 152) (j := 0) C dX4_difficultyOf_152 rfl rfl ?_
              refine z_iload (pc := 153) (j := 4) C dX4_difficultyOf_153 rfl ?_
              refine z_if_le (pc := 155) (tgt := 178) C dX4_difficultyOf_155 (by decide) (by omega) (fun c155 => ?_) (fun c155 => ?_)
              · refine z_iconst (pc := 178) C dX4_difficultyOf_178 ?_
                refine z_iadd (pc := 179) C dX4_difficultyOf_179 ?_
                refine z_istore_n (pc := 180) (L' := [(2, .int (iI (((z + (1 + 0)) + 0) + 0))), (8, .int (iI 0)), (7, .int (iI (shr c_2.2.2.1 f))), (6, .int (iI (210 + 5 * i))), (5, .int (iI i)), (4, .int (iI l)), (3, .int (iI wz)), (1, .int (iI f)), (0, .ref A.m)]) C dX4_difficultyOf_180 rfl (by rw [hnL]; decide) rfl ?_
                have hdn : ((z + (1 + 0)) + 0) + 0 + trs f (some c_2) (S.cs.drop (i + 1).toNat) + sds f (S.cs.drop (i + 1).toNat) = dif f S.cs := by
                  rw [← hd, sds, sdx]
                  have hsd : sdf (shr c_2.2.2.1 f) c_2.2.2.2.1 (shb c_2.2.2.1 c_2.2.2.2.2) = (if iez (shr c_2.2.2.1 f) c_2.2.2.2.1 = 1 then 1 else 4) + (if 3 < c_2.2.2.2.1 then 1 else 0) + (if c_2.2.2.2.2 ≠ 100 ∧ pcl c_2.2.2.2.2 ≠ pcl c_2.2.2.1 then 1 else 0) := rfl
                  rw [hsd]
                  rcases hl_ with ⟨a1, a2, a3, a4⟩ | ⟨y, a1, a2, a3, a4⟩
                  · rw [a4, trs]; (repeat' split) <;> omega
                  · rw [a2, trs, trd]; split at a4 <;> (repeat' split) <;> omega
                refine z_iload (pc := 181) (j := 1) C dX4_difficultyOf_181 rfl ?_
                refine z_istore_n (pc := 183) (L' := [(3, .int (iI 0)), (2, .int (iI (((z + (1 + 0)) + 0) + 0))), (8, .int (iI 0)), (7, .int (iI (shr c_2.2.2.1 f))), (6, .int (iI (210 + 5 * i))), (5, .int (iI i)), (4, .int (iI l)), (1, .int (iI f)), (0, .ref A.m)]) C dX4_difficultyOf_183 rfl (by rw [hnL]; decide) rfl ?_
                refine z_iload (pc := 184) (j := 3) C dX4_difficultyOf_184 rfl ?_
                refine z_istore (pc := 186) (L' := [(4, .int (iI (shr c_2.2.2.1 f))), (3, .int (iI 0)), (2, .int (iI (((z + (1 + 0)) + 0) + 0))), (8, .int (iI 0)), (7, .int (iI (shr c_2.2.2.1 f))), (6, .int (iI (210 + 5 * i))), (5, .int (iI i)), (1, .int (iI f)), (0, .ref A.m)]) C dX4_difficultyOf_186 (by rw [hnL]; decide) rfl ?_
                refine z_iinc (pc := 188) (k := 6) (L' := [(5, .int (iI (i + 1))), (4, .int (iI (shr c_2.2.2.1 f))), (3, .int (iI 0)), (2, .int (iI (((z + (1 + 0)) + 0) + 0))), (8, .int (iI 0)), (7, .int (iI (shr c_2.2.2.1 f))), (6, .int (iI (210 + 5 * i))), (1, .int (iI f)), (0, .ref A.m)]) C dX4_difficultyOf_188 rfl (by rw [hnL]; decide) rfl ?_
                refine z_goto (pc := 191) (tgt := 10) C dX4_difficultyOf_191 (by decide) ?_
                refine Z.weak (L' := [(5, .int (iI (i + 1))), (4, .int (iI (shr c_2.2.2.1 f))), (3, .int (iI 0)), (2, .int (iI (((z + (1 + 0)) + 0) + 0))), (1, .int (iI f)), (0, .ref A.m)]) (kc' := 0) (ks' := 0) [0, 1, 2, 3, 7, 8] rfl (by omega) (by omega) ?_
                exact ih10 _ (by omega) (i + 1) (((z + (1 + 0)) + 0) + 0) 0 (shr c_2.2.2.1 f) (some c_2) (by omega) hdn (Or.inr ⟨c_2, by omega, rfl, rfl, by split <;> omega⟩) rfl
              · refine z_iload (pc := 158) (j := 1) C dX4_difficultyOf_158 rfl ?_
                refine z_if_eq (pc := 160) (tgt := 178) C dX4_difficultyOf_160 (by decide) (by decide) (fun _ => ?_) (fun z => absurd z (by decide))
                refine z_iconst (pc := 178) C dX4_difficultyOf_178 ?_
                refine z_iadd (pc := 179) C dX4_difficultyOf_179 ?_
                refine z_istore_n (pc := 180) (L' := [(2, .int (iI (((z + (1 + 0)) + 0) + 0))), (8, .int (iI 0)), (7, .int (iI (shr c_2.2.2.1 f))), (6, .int (iI (210 + 5 * i))), (5, .int (iI i)), (4, .int (iI l)), (3, .int (iI wz)), (1, .int (iI f)), (0, .ref A.m)]) C dX4_difficultyOf_180 rfl (by rw [hnL]; decide) rfl ?_
                have hdn : ((z + (1 + 0)) + 0) + 0 + trs f (some c_2) (S.cs.drop (i + 1).toNat) + sds f (S.cs.drop (i + 1).toNat) = dif f S.cs := by
                  rw [← hd, sds, sdx]
                  have hsd : sdf (shr c_2.2.2.1 f) c_2.2.2.2.1 (shb c_2.2.2.1 c_2.2.2.2.2) = (if iez (shr c_2.2.2.1 f) c_2.2.2.2.1 = 1 then 1 else 4) + (if 3 < c_2.2.2.2.1 then 1 else 0) + (if c_2.2.2.2.2 ≠ 100 ∧ pcl c_2.2.2.2.2 ≠ pcl c_2.2.2.1 then 1 else 0) := rfl
                  rw [hsd]
                  rcases hl_ with ⟨a1, a2, a3, a4⟩ | ⟨y, a1, a2, a3, a4⟩
                  · rw [a4, trs]; (repeat' split) <;> omega
                  · rw [a2, trs, trd]; split at a4 <;> (repeat' split) <;> omega
                refine z_iload (pc := 181) (j := 1) C dX4_difficultyOf_181 rfl ?_
                refine z_istore_n (pc := 183) (L' := [(3, .int (iI 0)), (2, .int (iI (((z + (1 + 0)) + 0) + 0))), (8, .int (iI 0)), (7, .int (iI (shr c_2.2.2.1 f))), (6, .int (iI (210 + 5 * i))), (5, .int (iI i)), (4, .int (iI l)), (1, .int (iI f)), (0, .ref A.m)]) C dX4_difficultyOf_183 rfl (by rw [hnL]; decide) rfl ?_
                refine z_iload (pc := 184) (j := 3) C dX4_difficultyOf_184 rfl ?_
                refine z_istore (pc := 186) (L' := [(4, .int (iI (shr c_2.2.2.1 f))), (3, .int (iI 0)), (2, .int (iI (((z + (1 + 0)) + 0) + 0))), (8, .int (iI 0)), (7, .int (iI (shr c_2.2.2.1 f))), (6, .int (iI (210 + 5 * i))), (5, .int (iI i)), (1, .int (iI f)), (0, .ref A.m)]) C dX4_difficultyOf_186 (by rw [hnL]; decide) rfl ?_
                refine z_iinc (pc := 188) (k := 6) (L' := [(5, .int (iI (i + 1))), (4, .int (iI (shr c_2.2.2.1 f))), (3, .int (iI 0)), (2, .int (iI (((z + (1 + 0)) + 0) + 0))), (8, .int (iI 0)), (7, .int (iI (shr c_2.2.2.1 f))), (6, .int (iI (210 + 5 * i))), (1, .int (iI f)), (0, .ref A.m)]) C dX4_difficultyOf_188 rfl (by rw [hnL]; decide) rfl ?_
                refine z_goto (pc := 191) (tgt := 10) C dX4_difficultyOf_191 (by decide) ?_
                refine Z.weak (L' := [(5, .int (iI (i + 1))), (4, .int (iI (shr c_2.2.2.1 f))), (3, .int (iI 0)), (2, .int (iI (((z + (1 + 0)) + 0) + 0))), (1, .int (iI f)), (0, .ref A.m)]) (kc' := 0) (ks' := 0) [0, 1, 2, 3, 7, 8] rfl (by omega) (by omega) ?_
                exact ih10 _ (by omega) (i + 1) (((z + (1 + 0)) + 0) + 0) 0 (shr c_2.2.2.1 f) (some c_2) (by omega) hdn (Or.inr ⟨c_2, by omega, rfl, rfl, by split <;> omega⟩) rfl
            · refine z_iconst (pc := 145) C dX4_difficultyOf_145 ?_
              refine z_goto (pc := 146) (tgt := 150) C dX4_difficultyOf_146 (by decide) ?_
              refine z_iadd (pc := 150) C dX4_difficultyOf_150 ?_
              refine z_istore_n (pc := 151) (L' := [(2, .int (iI ((z + (1 + 0)) + 1))), (8, .int (iI 0)), (7, .int (iI (shr c_2.2.2.1 f))), (6, .int (iI (210 + 5 * i))), (5, .int (iI i)), (4, .int (iI l)), (3, .int (iI wz)), (1, .int (iI f)), (0, .ref A.m)]) C dX4_difficultyOf_151 rfl (by rw [hnL]; decide) rfl ?_
              refine z_iload_n (pc := 152) (j := 0) C dX4_difficultyOf_152 rfl rfl ?_
              refine z_iload (pc := 153) (j := 4) C dX4_difficultyOf_153 rfl ?_
              refine z_if_le (pc := 155) (tgt := 178) C dX4_difficultyOf_155 (by decide) (by omega) (fun c155 => ?_) (fun c155 => ?_)
              · refine z_iconst (pc := 178) C dX4_difficultyOf_178 ?_
                refine z_iadd (pc := 179) C dX4_difficultyOf_179 ?_
                refine z_istore_n (pc := 180) (L' := [(2, .int (iI (((z + (1 + 0)) + 1) + 0))), (8, .int (iI 0)), (7, .int (iI (shr c_2.2.2.1 f))), (6, .int (iI (210 + 5 * i))), (5, .int (iI i)), (4, .int (iI l)), (3, .int (iI wz)), (1, .int (iI f)), (0, .ref A.m)]) C dX4_difficultyOf_180 rfl (by rw [hnL]; decide) rfl ?_
                have hdn : ((z + (1 + 0)) + 1) + 0 + trs f (some c_2) (S.cs.drop (i + 1).toNat) + sds f (S.cs.drop (i + 1).toNat) = dif f S.cs := by
                  rw [← hd, sds, sdx]
                  have hsd : sdf (shr c_2.2.2.1 f) c_2.2.2.2.1 (shb c_2.2.2.1 c_2.2.2.2.2) = (if iez (shr c_2.2.2.1 f) c_2.2.2.2.1 = 1 then 1 else 4) + (if 3 < c_2.2.2.2.1 then 1 else 0) + (if c_2.2.2.2.2 ≠ 100 ∧ pcl c_2.2.2.2.2 ≠ pcl c_2.2.2.1 then 1 else 0) := rfl
                  rw [hsd]
                  rcases hl_ with ⟨a1, a2, a3, a4⟩ | ⟨y, a1, a2, a3, a4⟩
                  · rw [a4, trs]; (repeat' split) <;> omega
                  · rw [a2, trs, trd]; split at a4 <;> (repeat' split) <;> omega
                refine z_iload (pc := 181) (j := 1) C dX4_difficultyOf_181 rfl ?_
                refine z_istore_n (pc := 183) (L' := [(3, .int (iI 0)), (2, .int (iI (((z + (1 + 0)) + 1) + 0))), (8, .int (iI 0)), (7, .int (iI (shr c_2.2.2.1 f))), (6, .int (iI (210 + 5 * i))), (5, .int (iI i)), (4, .int (iI l)), (1, .int (iI f)), (0, .ref A.m)]) C dX4_difficultyOf_183 rfl (by rw [hnL]; decide) rfl ?_
                refine z_iload (pc := 184) (j := 3) C dX4_difficultyOf_184 rfl ?_
                refine z_istore (pc := 186) (L' := [(4, .int (iI (shr c_2.2.2.1 f))), (3, .int (iI 0)), (2, .int (iI (((z + (1 + 0)) + 1) + 0))), (8, .int (iI 0)), (7, .int (iI (shr c_2.2.2.1 f))), (6, .int (iI (210 + 5 * i))), (5, .int (iI i)), (1, .int (iI f)), (0, .ref A.m)]) C dX4_difficultyOf_186 (by rw [hnL]; decide) rfl ?_
                refine z_iinc (pc := 188) (k := 6) (L' := [(5, .int (iI (i + 1))), (4, .int (iI (shr c_2.2.2.1 f))), (3, .int (iI 0)), (2, .int (iI (((z + (1 + 0)) + 1) + 0))), (8, .int (iI 0)), (7, .int (iI (shr c_2.2.2.1 f))), (6, .int (iI (210 + 5 * i))), (1, .int (iI f)), (0, .ref A.m)]) C dX4_difficultyOf_188 rfl (by rw [hnL]; decide) rfl ?_
                refine z_goto (pc := 191) (tgt := 10) C dX4_difficultyOf_191 (by decide) ?_
                refine Z.weak (L' := [(5, .int (iI (i + 1))), (4, .int (iI (shr c_2.2.2.1 f))), (3, .int (iI 0)), (2, .int (iI (((z + (1 + 0)) + 1) + 0))), (1, .int (iI f)), (0, .ref A.m)]) (kc' := 0) (ks' := 0) [0, 1, 2, 3, 7, 8] rfl (by omega) (by omega) ?_
                exact ih10 _ (by omega) (i + 1) (((z + (1 + 0)) + 1) + 0) 0 (shr c_2.2.2.1 f) (some c_2) (by omega) hdn (Or.inr ⟨c_2, by omega, rfl, rfl, by split <;> omega⟩) rfl
              · refine z_iload (pc := 158) (j := 1) C dX4_difficultyOf_158 rfl ?_
                refine z_if_eq (pc := 160) (tgt := 178) C dX4_difficultyOf_160 (by decide) (by decide) (fun _ => ?_) (fun z => absurd z (by decide))
                refine z_iconst (pc := 178) C dX4_difficultyOf_178 ?_
                refine z_iadd (pc := 179) C dX4_difficultyOf_179 ?_
                refine z_istore_n (pc := 180) (L' := [(2, .int (iI (((z + (1 + 0)) + 1) + 0))), (8, .int (iI 0)), (7, .int (iI (shr c_2.2.2.1 f))), (6, .int (iI (210 + 5 * i))), (5, .int (iI i)), (4, .int (iI l)), (3, .int (iI wz)), (1, .int (iI f)), (0, .ref A.m)]) C dX4_difficultyOf_180 rfl (by rw [hnL]; decide) rfl ?_
                have hdn : ((z + (1 + 0)) + 1) + 0 + trs f (some c_2) (S.cs.drop (i + 1).toNat) + sds f (S.cs.drop (i + 1).toNat) = dif f S.cs := by
                  rw [← hd, sds, sdx]
                  have hsd : sdf (shr c_2.2.2.1 f) c_2.2.2.2.1 (shb c_2.2.2.1 c_2.2.2.2.2) = (if iez (shr c_2.2.2.1 f) c_2.2.2.2.1 = 1 then 1 else 4) + (if 3 < c_2.2.2.2.1 then 1 else 0) + (if c_2.2.2.2.2 ≠ 100 ∧ pcl c_2.2.2.2.2 ≠ pcl c_2.2.2.1 then 1 else 0) := rfl
                  rw [hsd]
                  rcases hl_ with ⟨a1, a2, a3, a4⟩ | ⟨y, a1, a2, a3, a4⟩
                  · rw [a4, trs]; (repeat' split) <;> omega
                  · rw [a2, trs, trd]; split at a4 <;> (repeat' split) <;> omega
                refine z_iload (pc := 181) (j := 1) C dX4_difficultyOf_181 rfl ?_
                refine z_istore_n (pc := 183) (L' := [(3, .int (iI 0)), (2, .int (iI (((z + (1 + 0)) + 1) + 0))), (8, .int (iI 0)), (7, .int (iI (shr c_2.2.2.1 f))), (6, .int (iI (210 + 5 * i))), (5, .int (iI i)), (4, .int (iI l)), (1, .int (iI f)), (0, .ref A.m)]) C dX4_difficultyOf_183 rfl (by rw [hnL]; decide) rfl ?_
                refine z_iload (pc := 184) (j := 3) C dX4_difficultyOf_184 rfl ?_
                refine z_istore (pc := 186) (L' := [(4, .int (iI (shr c_2.2.2.1 f))), (3, .int (iI 0)), (2, .int (iI (((z + (1 + 0)) + 1) + 0))), (8, .int (iI 0)), (7, .int (iI (shr c_2.2.2.1 f))), (6, .int (iI (210 + 5 * i))), (5, .int (iI i)), (1, .int (iI f)), (0, .ref A.m)]) C dX4_difficultyOf_186 (by rw [hnL]; decide) rfl ?_
                refine z_iinc (pc := 188) (k := 6) (L' := [(5, .int (iI (i + 1))), (4, .int (iI (shr c_2.2.2.1 f))), (3, .int (iI 0)), (2, .int (iI (((z + (1 + 0)) + 1) + 0))), (8, .int (iI 0)), (7, .int (iI (shr c_2.2.2.1 f))), (6, .int (iI (210 + 5 * i))), (1, .int (iI f)), (0, .ref A.m)]) C dX4_difficultyOf_188 rfl (by rw [hnL]; decide) rfl ?_
                refine z_goto (pc := 191) (tgt := 10) C dX4_difficultyOf_191 (by decide) ?_
                refine Z.weak (L' := [(5, .int (iI (i + 1))), (4, .int (iI (shr c_2.2.2.1 f))), (3, .int (iI 0)), (2, .int (iI (((z + (1 + 0)) + 1) + 0))), (1, .int (iI f)), (0, .ref A.m)]) (kc' := 0) (ks' := 0) [0, 1, 2, 3, 7, 8] rfl (by omega) (by omega) ?_
                exact ih10 _ (by omega) (i + 1) (((z + (1 + 0)) + 1) + 0) 0 (shr c_2.2.2.1 f) (some c_2) (by omega) hdn (Or.inr ⟨c_2, by omega, rfl, rfl, by split <;> omega⟩) rfl
        · refine z_iconst (pc := 95) C dX4_difficultyOf_95 ?_
          refine z_goto (pc := 96) (tgt := 100) C dX4_difficultyOf_96 (by decide) ?_
          refine z_iadd (pc := 100) C dX4_difficultyOf_100 ?_
          refine z_iadd (pc := 101) C dX4_difficultyOf_101 ?_
          refine z_istore_n (pc := 102) (L' := [(2, .int (iI (z + (1 + 1)))), (8, .int (iI 0)), (7, .int (iI (shr c_2.2.2.1 f))), (6, .int (iI (210 + 5 * i))), (5, .int (iI i)), (4, .int (iI l)), (3, .int (iI wz)), (1, .int (iI f)), (0, .ref A.m)]) C dX4_difficultyOf_102 rfl (by rw [hnL]; decide) rfl ?_
          refine z_iload_n (pc := 103) (j := 0) C dX4_difficultyOf_103 rfl rfl ?_
          refine z_aload_n (pc := 104) (j := 8) C dX4_difficultyOf_104 rfl rfl ?_
          refine z_getfield (pc := 105) (v := .ref A.v) C in_X4 rfl 0 (by decide) q2082 (fun _ z => z) gm_1 rfl dX4_difficultyOf_105 ?_
          refine z_iload (pc := 108) (j := 3) C dX4_difficultyOf_108 rfl ?_
          refine z_iconst (pc := 110) C dX4_difficultyOf_110 ?_
          refine z_iadd (pc := 111) C dX4_difficultyOf_111 ?_
          refine z_iaload (pc := 112) (v := .int (iI c_2.2.2.2.2)) C gv_1 (by omega) (mA_e (vE hx5_2 (by omega))) dX4_difficultyOf_112 ?_
          refine z_bipush (pc := 113) C dX4_difficultyOf_113 (by decide) ?_
          refine z_icmp_eq (pc := 115) (tgt := 149) C dX4_difficultyOf_115 (by decide) (by omega) (by decide) (fun c115 => ?_) (fun c115 => ?_)
          · refine z_iconst (pc := 149) C dX4_difficultyOf_149 ?_
            refine z_iadd (pc := 150) C dX4_difficultyOf_150 ?_
            refine z_istore_n (pc := 151) (L' := [(2, .int (iI ((z + (1 + 1)) + 0))), (8, .int (iI 0)), (7, .int (iI (shr c_2.2.2.1 f))), (6, .int (iI (210 + 5 * i))), (5, .int (iI i)), (4, .int (iI l)), (3, .int (iI wz)), (1, .int (iI f)), (0, .ref A.m)]) C dX4_difficultyOf_151 rfl (by rw [hnL]; decide) rfl ?_
            refine z_iload_n (pc := 152) (j := 0) C dX4_difficultyOf_152 rfl rfl ?_
            refine z_iload (pc := 153) (j := 4) C dX4_difficultyOf_153 rfl ?_
            refine z_if_le (pc := 155) (tgt := 178) C dX4_difficultyOf_155 (by decide) (by omega) (fun c155 => ?_) (fun c155 => ?_)
            · refine z_iconst (pc := 178) C dX4_difficultyOf_178 ?_
              refine z_iadd (pc := 179) C dX4_difficultyOf_179 ?_
              refine z_istore_n (pc := 180) (L' := [(2, .int (iI (((z + (1 + 1)) + 0) + 0))), (8, .int (iI 0)), (7, .int (iI (shr c_2.2.2.1 f))), (6, .int (iI (210 + 5 * i))), (5, .int (iI i)), (4, .int (iI l)), (3, .int (iI wz)), (1, .int (iI f)), (0, .ref A.m)]) C dX4_difficultyOf_180 rfl (by rw [hnL]; decide) rfl ?_
              have hdn : ((z + (1 + 1)) + 0) + 0 + trs f (some c_2) (S.cs.drop (i + 1).toNat) + sds f (S.cs.drop (i + 1).toNat) = dif f S.cs := by
                rw [← hd, sds, sdx]
                have hsd : sdf (shr c_2.2.2.1 f) c_2.2.2.2.1 (shb c_2.2.2.1 c_2.2.2.2.2) = (if iez (shr c_2.2.2.1 f) c_2.2.2.2.1 = 1 then 1 else 4) + (if 3 < c_2.2.2.2.1 then 1 else 0) + (if c_2.2.2.2.2 ≠ 100 ∧ pcl c_2.2.2.2.2 ≠ pcl c_2.2.2.1 then 1 else 0) := rfl
                rw [hsd]
                rcases hl_ with ⟨a1, a2, a3, a4⟩ | ⟨y, a1, a2, a3, a4⟩
                · rw [a4, trs]; (repeat' split) <;> omega
                · rw [a2, trs, trd]; split at a4 <;> (repeat' split) <;> omega
              refine z_iload (pc := 181) (j := 1) C dX4_difficultyOf_181 rfl ?_
              refine z_istore_n (pc := 183) (L' := [(3, .int (iI 0)), (2, .int (iI (((z + (1 + 1)) + 0) + 0))), (8, .int (iI 0)), (7, .int (iI (shr c_2.2.2.1 f))), (6, .int (iI (210 + 5 * i))), (5, .int (iI i)), (4, .int (iI l)), (1, .int (iI f)), (0, .ref A.m)]) C dX4_difficultyOf_183 rfl (by rw [hnL]; decide) rfl ?_
              refine z_iload (pc := 184) (j := 3) C dX4_difficultyOf_184 rfl ?_
              refine z_istore (pc := 186) (L' := [(4, .int (iI (shr c_2.2.2.1 f))), (3, .int (iI 0)), (2, .int (iI (((z + (1 + 1)) + 0) + 0))), (8, .int (iI 0)), (7, .int (iI (shr c_2.2.2.1 f))), (6, .int (iI (210 + 5 * i))), (5, .int (iI i)), (1, .int (iI f)), (0, .ref A.m)]) C dX4_difficultyOf_186 (by rw [hnL]; decide) rfl ?_
              refine z_iinc (pc := 188) (k := 6) (L' := [(5, .int (iI (i + 1))), (4, .int (iI (shr c_2.2.2.1 f))), (3, .int (iI 0)), (2, .int (iI (((z + (1 + 1)) + 0) + 0))), (8, .int (iI 0)), (7, .int (iI (shr c_2.2.2.1 f))), (6, .int (iI (210 + 5 * i))), (1, .int (iI f)), (0, .ref A.m)]) C dX4_difficultyOf_188 rfl (by rw [hnL]; decide) rfl ?_
              refine z_goto (pc := 191) (tgt := 10) C dX4_difficultyOf_191 (by decide) ?_
              refine Z.weak (L' := [(5, .int (iI (i + 1))), (4, .int (iI (shr c_2.2.2.1 f))), (3, .int (iI 0)), (2, .int (iI (((z + (1 + 1)) + 0) + 0))), (1, .int (iI f)), (0, .ref A.m)]) (kc' := 0) (ks' := 0) [0, 1, 2, 3, 7, 8] rfl (by omega) (by omega) ?_
              exact ih10 _ (by omega) (i + 1) (((z + (1 + 1)) + 0) + 0) 0 (shr c_2.2.2.1 f) (some c_2) (by omega) hdn (Or.inr ⟨c_2, by omega, rfl, rfl, by split <;> omega⟩) rfl
            · refine z_iload (pc := 158) (j := 1) C dX4_difficultyOf_158 rfl ?_
              refine z_if_eq (pc := 160) (tgt := 178) C dX4_difficultyOf_160 (by decide) (by decide) (fun _ => ?_) (fun z => absurd z (by decide))
              refine z_iconst (pc := 178) C dX4_difficultyOf_178 ?_
              refine z_iadd (pc := 179) C dX4_difficultyOf_179 ?_
              refine z_istore_n (pc := 180) (L' := [(2, .int (iI (((z + (1 + 1)) + 0) + 0))), (8, .int (iI 0)), (7, .int (iI (shr c_2.2.2.1 f))), (6, .int (iI (210 + 5 * i))), (5, .int (iI i)), (4, .int (iI l)), (3, .int (iI wz)), (1, .int (iI f)), (0, .ref A.m)]) C dX4_difficultyOf_180 rfl (by rw [hnL]; decide) rfl ?_
              have hdn : ((z + (1 + 1)) + 0) + 0 + trs f (some c_2) (S.cs.drop (i + 1).toNat) + sds f (S.cs.drop (i + 1).toNat) = dif f S.cs := by
                rw [← hd, sds, sdx]
                have hsd : sdf (shr c_2.2.2.1 f) c_2.2.2.2.1 (shb c_2.2.2.1 c_2.2.2.2.2) = (if iez (shr c_2.2.2.1 f) c_2.2.2.2.1 = 1 then 1 else 4) + (if 3 < c_2.2.2.2.1 then 1 else 0) + (if c_2.2.2.2.2 ≠ 100 ∧ pcl c_2.2.2.2.2 ≠ pcl c_2.2.2.1 then 1 else 0) := rfl
                rw [hsd]
                rcases hl_ with ⟨a1, a2, a3, a4⟩ | ⟨y, a1, a2, a3, a4⟩
                · rw [a4, trs]; (repeat' split) <;> omega
                · rw [a2, trs, trd]; split at a4 <;> (repeat' split) <;> omega
              refine z_iload (pc := 181) (j := 1) C dX4_difficultyOf_181 rfl ?_
              refine z_istore_n (pc := 183) (L' := [(3, .int (iI 0)), (2, .int (iI (((z + (1 + 1)) + 0) + 0))), (8, .int (iI 0)), (7, .int (iI (shr c_2.2.2.1 f))), (6, .int (iI (210 + 5 * i))), (5, .int (iI i)), (4, .int (iI l)), (1, .int (iI f)), (0, .ref A.m)]) C dX4_difficultyOf_183 rfl (by rw [hnL]; decide) rfl ?_
              refine z_iload (pc := 184) (j := 3) C dX4_difficultyOf_184 rfl ?_
              refine z_istore (pc := 186) (L' := [(4, .int (iI (shr c_2.2.2.1 f))), (3, .int (iI 0)), (2, .int (iI (((z + (1 + 1)) + 0) + 0))), (8, .int (iI 0)), (7, .int (iI (shr c_2.2.2.1 f))), (6, .int (iI (210 + 5 * i))), (5, .int (iI i)), (1, .int (iI f)), (0, .ref A.m)]) C dX4_difficultyOf_186 (by rw [hnL]; decide) rfl ?_
              refine z_iinc (pc := 188) (k := 6) (L' := [(5, .int (iI (i + 1))), (4, .int (iI (shr c_2.2.2.1 f))), (3, .int (iI 0)), (2, .int (iI (((z + (1 + 1)) + 0) + 0))), (8, .int (iI 0)), (7, .int (iI (shr c_2.2.2.1 f))), (6, .int (iI (210 + 5 * i))), (1, .int (iI f)), (0, .ref A.m)]) C dX4_difficultyOf_188 rfl (by rw [hnL]; decide) rfl ?_
              refine z_goto (pc := 191) (tgt := 10) C dX4_difficultyOf_191 (by decide) ?_
              refine Z.weak (L' := [(5, .int (iI (i + 1))), (4, .int (iI (shr c_2.2.2.1 f))), (3, .int (iI 0)), (2, .int (iI (((z + (1 + 1)) + 0) + 0))), (1, .int (iI f)), (0, .ref A.m)]) (kc' := 0) (ks' := 0) [0, 1, 2, 3, 7, 8] rfl (by omega) (by omega) ?_
              exact ih10 _ (by omega) (i + 1) (((z + (1 + 1)) + 0) + 0) 0 (shr c_2.2.2.1 f) (some c_2) (by omega) hdn (Or.inr ⟨c_2, by omega, rfl, rfl, by split <;> omega⟩) rfl
          · refine z_aload_n (pc := 118) (j := 8) C dX4_difficultyOf_118 rfl rfl ?_
            refine z_getfield (pc := 119) (v := .ref A.v) C in_X4 rfl 0 (by decide) q2082 (fun _ z => z) gm_1 rfl dX4_difficultyOf_119 ?_
            refine z_iload (pc := 122) (j := 3) C dX4_difficultyOf_122 rfl ?_
            refine z_iconst (pc := 124) C dX4_difficultyOf_124 ?_
            refine z_iadd (pc := 125) C dX4_difficultyOf_125 ?_
            refine z_iaload (pc := 126) (v := .int (iI c_2.2.2.2.2)) C gv_1 (by omega) (mA_e (vE hx5_2 (by omega))) dX4_difficultyOf_126 ?_
            refine z_callS (pc := 127) (n := 1) (kc' := 0) (ks' := 0) C (m_pitch C.t (x := c_2.2.2.2.2) (by omega)) (lw_S q2218 q2219 q74 q2220) (by decide +kernel) ⟨by decide, by decide⟩ rfl rfl (Nat.le_of_ble_eq_true rfl) dX4_difficultyOf_127 (by omega) (by omega) (zpk (st' := [.int (iI (pcl c_2.2.2.2.2)), .int (iI (z + (1 + 1)))]) rfl ?_) zrx
            have hpcl130 := pcl_r c_2.2.2.2.2
            refine z_aload_n (pc := 130) (j := 8) C dX4_difficultyOf_130 rfl rfl ?_
            refine z_getfield (pc := 131) (v := .ref A.v) C in_X4 rfl 0 (by decide) q2082 (fun _ z => z) gm_1 rfl dX4_difficultyOf_131 ?_
            refine z_iload (pc := 134) (j := 3) C dX4_difficultyOf_134 rfl ?_
            refine z_iconst (pc := 136) C dX4_difficultyOf_136 ?_
            refine z_iadd (pc := 137) C dX4_difficultyOf_137 ?_
            refine z_iaload (pc := 138) (v := .int (iI c_2.2.2.1)) C gv_1 (by omega) (mA_e (vE hx3_2 (by omega))) dX4_difficultyOf_138 ?_
            refine z_callS (pc := 139) (n := 1) (kc' := 0) (ks' := 0) C (m_pitch C.t (x := c_2.2.2.1) (by omega)) (lw_S q2218 q2219 q74 q2220) (by decide +kernel) ⟨by decide, by decide⟩ rfl rfl (Nat.le_of_ble_eq_true rfl) dX4_difficultyOf_139 (by omega) (by omega) (zpk (st' := [.int (iI (pcl c_2.2.2.1)), .int (iI (pcl c_2.2.2.2.2)), .int (iI (z + (1 + 1)))]) rfl ?_) zrx
            have hpcl142 := pcl_r c_2.2.2.1
            refine z_icmp_eq (pc := 142) (tgt := 149) C dX4_difficultyOf_142 (by decide) (by omega) (by omega) (fun c142 => ?_) (fun c142 => ?_)
            · refine z_iconst (pc := 149) C dX4_difficultyOf_149 ?_
              refine z_iadd (pc := 150) C dX4_difficultyOf_150 ?_
              refine z_istore_n (pc := 151) (L' := [(2, .int (iI ((z + (1 + 1)) + 0))), (8, .int (iI 0)), (7, .int (iI (shr c_2.2.2.1 f))), (6, .int (iI (210 + 5 * i))), (5, .int (iI i)), (4, .int (iI l)), (3, .int (iI wz)), (1, .int (iI f)), (0, .ref A.m)]) C dX4_difficultyOf_151 rfl (by rw [hnL]; decide) rfl ?_
              refine z_iload_n (pc := 152) (j := 0) C dX4_difficultyOf_152 rfl rfl ?_
              refine z_iload (pc := 153) (j := 4) C dX4_difficultyOf_153 rfl ?_
              refine z_if_le (pc := 155) (tgt := 178) C dX4_difficultyOf_155 (by decide) (by omega) (fun c155 => ?_) (fun c155 => ?_)
              · refine z_iconst (pc := 178) C dX4_difficultyOf_178 ?_
                refine z_iadd (pc := 179) C dX4_difficultyOf_179 ?_
                refine z_istore_n (pc := 180) (L' := [(2, .int (iI (((z + (1 + 1)) + 0) + 0))), (8, .int (iI 0)), (7, .int (iI (shr c_2.2.2.1 f))), (6, .int (iI (210 + 5 * i))), (5, .int (iI i)), (4, .int (iI l)), (3, .int (iI wz)), (1, .int (iI f)), (0, .ref A.m)]) C dX4_difficultyOf_180 rfl (by rw [hnL]; decide) rfl ?_
                have hdn : ((z + (1 + 1)) + 0) + 0 + trs f (some c_2) (S.cs.drop (i + 1).toNat) + sds f (S.cs.drop (i + 1).toNat) = dif f S.cs := by
                  rw [← hd, sds, sdx]
                  have hsd : sdf (shr c_2.2.2.1 f) c_2.2.2.2.1 (shb c_2.2.2.1 c_2.2.2.2.2) = (if iez (shr c_2.2.2.1 f) c_2.2.2.2.1 = 1 then 1 else 4) + (if 3 < c_2.2.2.2.1 then 1 else 0) + (if c_2.2.2.2.2 ≠ 100 ∧ pcl c_2.2.2.2.2 ≠ pcl c_2.2.2.1 then 1 else 0) := rfl
                  rw [hsd]
                  rcases hl_ with ⟨a1, a2, a3, a4⟩ | ⟨y, a1, a2, a3, a4⟩
                  · rw [a4, trs]; (repeat' split) <;> omega
                  · rw [a2, trs, trd]; split at a4 <;> (repeat' split) <;> omega
                refine z_iload (pc := 181) (j := 1) C dX4_difficultyOf_181 rfl ?_
                refine z_istore_n (pc := 183) (L' := [(3, .int (iI 0)), (2, .int (iI (((z + (1 + 1)) + 0) + 0))), (8, .int (iI 0)), (7, .int (iI (shr c_2.2.2.1 f))), (6, .int (iI (210 + 5 * i))), (5, .int (iI i)), (4, .int (iI l)), (1, .int (iI f)), (0, .ref A.m)]) C dX4_difficultyOf_183 rfl (by rw [hnL]; decide) rfl ?_
                refine z_iload (pc := 184) (j := 3) C dX4_difficultyOf_184 rfl ?_
                refine z_istore (pc := 186) (L' := [(4, .int (iI (shr c_2.2.2.1 f))), (3, .int (iI 0)), (2, .int (iI (((z + (1 + 1)) + 0) + 0))), (8, .int (iI 0)), (7, .int (iI (shr c_2.2.2.1 f))), (6, .int (iI (210 + 5 * i))), (5, .int (iI i)), (1, .int (iI f)), (0, .ref A.m)]) C dX4_difficultyOf_186 (by rw [hnL]; decide) rfl ?_
                refine z_iinc (pc := 188) (k := 6) (L' := [(5, .int (iI (i + 1))), (4, .int (iI (shr c_2.2.2.1 f))), (3, .int (iI 0)), (2, .int (iI (((z + (1 + 1)) + 0) + 0))), (8, .int (iI 0)), (7, .int (iI (shr c_2.2.2.1 f))), (6, .int (iI (210 + 5 * i))), (1, .int (iI f)), (0, .ref A.m)]) C dX4_difficultyOf_188 rfl (by rw [hnL]; decide) rfl ?_
                refine z_goto (pc := 191) (tgt := 10) C dX4_difficultyOf_191 (by decide) ?_
                refine Z.weak (L' := [(5, .int (iI (i + 1))), (4, .int (iI (shr c_2.2.2.1 f))), (3, .int (iI 0)), (2, .int (iI (((z + (1 + 1)) + 0) + 0))), (1, .int (iI f)), (0, .ref A.m)]) (kc' := 0) (ks' := 0) [0, 1, 2, 3, 7, 8] rfl (by omega) (by omega) ?_
                exact ih10 _ (by omega) (i + 1) (((z + (1 + 1)) + 0) + 0) 0 (shr c_2.2.2.1 f) (some c_2) (by omega) hdn (Or.inr ⟨c_2, by omega, rfl, rfl, by split <;> omega⟩) rfl
              · refine z_iload (pc := 158) (j := 1) C dX4_difficultyOf_158 rfl ?_
                refine z_if_eq (pc := 160) (tgt := 178) C dX4_difficultyOf_160 (by decide) (by decide) (fun _ => ?_) (fun z => absurd z (by decide))
                refine z_iconst (pc := 178) C dX4_difficultyOf_178 ?_
                refine z_iadd (pc := 179) C dX4_difficultyOf_179 ?_
                refine z_istore_n (pc := 180) (L' := [(2, .int (iI (((z + (1 + 1)) + 0) + 0))), (8, .int (iI 0)), (7, .int (iI (shr c_2.2.2.1 f))), (6, .int (iI (210 + 5 * i))), (5, .int (iI i)), (4, .int (iI l)), (3, .int (iI wz)), (1, .int (iI f)), (0, .ref A.m)]) C dX4_difficultyOf_180 rfl (by rw [hnL]; decide) rfl ?_
                have hdn : ((z + (1 + 1)) + 0) + 0 + trs f (some c_2) (S.cs.drop (i + 1).toNat) + sds f (S.cs.drop (i + 1).toNat) = dif f S.cs := by
                  rw [← hd, sds, sdx]
                  have hsd : sdf (shr c_2.2.2.1 f) c_2.2.2.2.1 (shb c_2.2.2.1 c_2.2.2.2.2) = (if iez (shr c_2.2.2.1 f) c_2.2.2.2.1 = 1 then 1 else 4) + (if 3 < c_2.2.2.2.1 then 1 else 0) + (if c_2.2.2.2.2 ≠ 100 ∧ pcl c_2.2.2.2.2 ≠ pcl c_2.2.2.1 then 1 else 0) := rfl
                  rw [hsd]
                  rcases hl_ with ⟨a1, a2, a3, a4⟩ | ⟨y, a1, a2, a3, a4⟩
                  · rw [a4, trs]; (repeat' split) <;> omega
                  · rw [a2, trs, trd]; split at a4 <;> (repeat' split) <;> omega
                refine z_iload (pc := 181) (j := 1) C dX4_difficultyOf_181 rfl ?_
                refine z_istore_n (pc := 183) (L' := [(3, .int (iI 0)), (2, .int (iI (((z + (1 + 1)) + 0) + 0))), (8, .int (iI 0)), (7, .int (iI (shr c_2.2.2.1 f))), (6, .int (iI (210 + 5 * i))), (5, .int (iI i)), (4, .int (iI l)), (1, .int (iI f)), (0, .ref A.m)]) C dX4_difficultyOf_183 rfl (by rw [hnL]; decide) rfl ?_
                refine z_iload (pc := 184) (j := 3) C dX4_difficultyOf_184 rfl ?_
                refine z_istore (pc := 186) (L' := [(4, .int (iI (shr c_2.2.2.1 f))), (3, .int (iI 0)), (2, .int (iI (((z + (1 + 1)) + 0) + 0))), (8, .int (iI 0)), (7, .int (iI (shr c_2.2.2.1 f))), (6, .int (iI (210 + 5 * i))), (5, .int (iI i)), (1, .int (iI f)), (0, .ref A.m)]) C dX4_difficultyOf_186 (by rw [hnL]; decide) rfl ?_
                refine z_iinc (pc := 188) (k := 6) (L' := [(5, .int (iI (i + 1))), (4, .int (iI (shr c_2.2.2.1 f))), (3, .int (iI 0)), (2, .int (iI (((z + (1 + 1)) + 0) + 0))), (8, .int (iI 0)), (7, .int (iI (shr c_2.2.2.1 f))), (6, .int (iI (210 + 5 * i))), (1, .int (iI f)), (0, .ref A.m)]) C dX4_difficultyOf_188 rfl (by rw [hnL]; decide) rfl ?_
                refine z_goto (pc := 191) (tgt := 10) C dX4_difficultyOf_191 (by decide) ?_
                refine Z.weak (L' := [(5, .int (iI (i + 1))), (4, .int (iI (shr c_2.2.2.1 f))), (3, .int (iI 0)), (2, .int (iI (((z + (1 + 1)) + 0) + 0))), (1, .int (iI f)), (0, .ref A.m)]) (kc' := 0) (ks' := 0) [0, 1, 2, 3, 7, 8] rfl (by omega) (by omega) ?_
                exact ih10 _ (by omega) (i + 1) (((z + (1 + 1)) + 0) + 0) 0 (shr c_2.2.2.1 f) (some c_2) (by omega) hdn (Or.inr ⟨c_2, by omega, rfl, rfl, by split <;> omega⟩) rfl
            · refine z_iconst (pc := 145) C dX4_difficultyOf_145 ?_
              refine z_goto (pc := 146) (tgt := 150) C dX4_difficultyOf_146 (by decide) ?_
              refine z_iadd (pc := 150) C dX4_difficultyOf_150 ?_
              refine z_istore_n (pc := 151) (L' := [(2, .int (iI ((z + (1 + 1)) + 1))), (8, .int (iI 0)), (7, .int (iI (shr c_2.2.2.1 f))), (6, .int (iI (210 + 5 * i))), (5, .int (iI i)), (4, .int (iI l)), (3, .int (iI wz)), (1, .int (iI f)), (0, .ref A.m)]) C dX4_difficultyOf_151 rfl (by rw [hnL]; decide) rfl ?_
              refine z_iload_n (pc := 152) (j := 0) C dX4_difficultyOf_152 rfl rfl ?_
              refine z_iload (pc := 153) (j := 4) C dX4_difficultyOf_153 rfl ?_
              refine z_if_le (pc := 155) (tgt := 178) C dX4_difficultyOf_155 (by decide) (by omega) (fun c155 => ?_) (fun c155 => ?_)
              · refine z_iconst (pc := 178) C dX4_difficultyOf_178 ?_
                refine z_iadd (pc := 179) C dX4_difficultyOf_179 ?_
                refine z_istore_n (pc := 180) (L' := [(2, .int (iI (((z + (1 + 1)) + 1) + 0))), (8, .int (iI 0)), (7, .int (iI (shr c_2.2.2.1 f))), (6, .int (iI (210 + 5 * i))), (5, .int (iI i)), (4, .int (iI l)), (3, .int (iI wz)), (1, .int (iI f)), (0, .ref A.m)]) C dX4_difficultyOf_180 rfl (by rw [hnL]; decide) rfl ?_
                have hdn : ((z + (1 + 1)) + 1) + 0 + trs f (some c_2) (S.cs.drop (i + 1).toNat) + sds f (S.cs.drop (i + 1).toNat) = dif f S.cs := by
                  rw [← hd, sds, sdx]
                  have hsd : sdf (shr c_2.2.2.1 f) c_2.2.2.2.1 (shb c_2.2.2.1 c_2.2.2.2.2) = (if iez (shr c_2.2.2.1 f) c_2.2.2.2.1 = 1 then 1 else 4) + (if 3 < c_2.2.2.2.1 then 1 else 0) + (if c_2.2.2.2.2 ≠ 100 ∧ pcl c_2.2.2.2.2 ≠ pcl c_2.2.2.1 then 1 else 0) := rfl
                  rw [hsd]
                  rcases hl_ with ⟨a1, a2, a3, a4⟩ | ⟨y, a1, a2, a3, a4⟩
                  · rw [a4, trs]; (repeat' split) <;> omega
                  · rw [a2, trs, trd]; split at a4 <;> (repeat' split) <;> omega
                refine z_iload (pc := 181) (j := 1) C dX4_difficultyOf_181 rfl ?_
                refine z_istore_n (pc := 183) (L' := [(3, .int (iI 0)), (2, .int (iI (((z + (1 + 1)) + 1) + 0))), (8, .int (iI 0)), (7, .int (iI (shr c_2.2.2.1 f))), (6, .int (iI (210 + 5 * i))), (5, .int (iI i)), (4, .int (iI l)), (1, .int (iI f)), (0, .ref A.m)]) C dX4_difficultyOf_183 rfl (by rw [hnL]; decide) rfl ?_
                refine z_iload (pc := 184) (j := 3) C dX4_difficultyOf_184 rfl ?_
                refine z_istore (pc := 186) (L' := [(4, .int (iI (shr c_2.2.2.1 f))), (3, .int (iI 0)), (2, .int (iI (((z + (1 + 1)) + 1) + 0))), (8, .int (iI 0)), (7, .int (iI (shr c_2.2.2.1 f))), (6, .int (iI (210 + 5 * i))), (5, .int (iI i)), (1, .int (iI f)), (0, .ref A.m)]) C dX4_difficultyOf_186 (by rw [hnL]; decide) rfl ?_
                refine z_iinc (pc := 188) (k := 6) (L' := [(5, .int (iI (i + 1))), (4, .int (iI (shr c_2.2.2.1 f))), (3, .int (iI 0)), (2, .int (iI (((z + (1 + 1)) + 1) + 0))), (8, .int (iI 0)), (7, .int (iI (shr c_2.2.2.1 f))), (6, .int (iI (210 + 5 * i))), (1, .int (iI f)), (0, .ref A.m)]) C dX4_difficultyOf_188 rfl (by rw [hnL]; decide) rfl ?_
                refine z_goto (pc := 191) (tgt := 10) C dX4_difficultyOf_191 (by decide) ?_
                refine Z.weak (L' := [(5, .int (iI (i + 1))), (4, .int (iI (shr c_2.2.2.1 f))), (3, .int (iI 0)), (2, .int (iI (((z + (1 + 1)) + 1) + 0))), (1, .int (iI f)), (0, .ref A.m)]) (kc' := 0) (ks' := 0) [0, 1, 2, 3, 7, 8] rfl (by omega) (by omega) ?_
                exact ih10 _ (by omega) (i + 1) (((z + (1 + 1)) + 1) + 0) 0 (shr c_2.2.2.1 f) (some c_2) (by omega) hdn (Or.inr ⟨c_2, by omega, rfl, rfl, by split <;> omega⟩) rfl
              · refine z_iload (pc := 158) (j := 1) C dX4_difficultyOf_158 rfl ?_
                refine z_if_eq (pc := 160) (tgt := 178) C dX4_difficultyOf_160 (by decide) (by decide) (fun _ => ?_) (fun z => absurd z (by decide))
                refine z_iconst (pc := 178) C dX4_difficultyOf_178 ?_
                refine z_iadd (pc := 179) C dX4_difficultyOf_179 ?_
                refine z_istore_n (pc := 180) (L' := [(2, .int (iI (((z + (1 + 1)) + 1) + 0))), (8, .int (iI 0)), (7, .int (iI (shr c_2.2.2.1 f))), (6, .int (iI (210 + 5 * i))), (5, .int (iI i)), (4, .int (iI l)), (3, .int (iI wz)), (1, .int (iI f)), (0, .ref A.m)]) C dX4_difficultyOf_180 rfl (by rw [hnL]; decide) rfl ?_
                have hdn : ((z + (1 + 1)) + 1) + 0 + trs f (some c_2) (S.cs.drop (i + 1).toNat) + sds f (S.cs.drop (i + 1).toNat) = dif f S.cs := by
                  rw [← hd, sds, sdx]
                  have hsd : sdf (shr c_2.2.2.1 f) c_2.2.2.2.1 (shb c_2.2.2.1 c_2.2.2.2.2) = (if iez (shr c_2.2.2.1 f) c_2.2.2.2.1 = 1 then 1 else 4) + (if 3 < c_2.2.2.2.1 then 1 else 0) + (if c_2.2.2.2.2 ≠ 100 ∧ pcl c_2.2.2.2.2 ≠ pcl c_2.2.2.1 then 1 else 0) := rfl
                  rw [hsd]
                  rcases hl_ with ⟨a1, a2, a3, a4⟩ | ⟨y, a1, a2, a3, a4⟩
                  · rw [a4, trs]; (repeat' split) <;> omega
                  · rw [a2, trs, trd]; split at a4 <;> (repeat' split) <;> omega
                refine z_iload (pc := 181) (j := 1) C dX4_difficultyOf_181 rfl ?_
                refine z_istore_n (pc := 183) (L' := [(3, .int (iI 0)), (2, .int (iI (((z + (1 + 1)) + 1) + 0))), (8, .int (iI 0)), (7, .int (iI (shr c_2.2.2.1 f))), (6, .int (iI (210 + 5 * i))), (5, .int (iI i)), (4, .int (iI l)), (1, .int (iI f)), (0, .ref A.m)]) C dX4_difficultyOf_183 rfl (by rw [hnL]; decide) rfl ?_
                refine z_iload (pc := 184) (j := 3) C dX4_difficultyOf_184 rfl ?_
                refine z_istore (pc := 186) (L' := [(4, .int (iI (shr c_2.2.2.1 f))), (3, .int (iI 0)), (2, .int (iI (((z + (1 + 1)) + 1) + 0))), (8, .int (iI 0)), (7, .int (iI (shr c_2.2.2.1 f))), (6, .int (iI (210 + 5 * i))), (5, .int (iI i)), (1, .int (iI f)), (0, .ref A.m)]) C dX4_difficultyOf_186 (by rw [hnL]; decide) rfl ?_
                refine z_iinc (pc := 188) (k := 6) (L' := [(5, .int (iI (i + 1))), (4, .int (iI (shr c_2.2.2.1 f))), (3, .int (iI 0)), (2, .int (iI (((z + (1 + 1)) + 1) + 0))), (8, .int (iI 0)), (7, .int (iI (shr c_2.2.2.1 f))), (6, .int (iI (210 + 5 * i))), (1, .int (iI f)), (0, .ref A.m)]) C dX4_difficultyOf_188 rfl (by rw [hnL]; decide) rfl ?_
                refine z_goto (pc := 191) (tgt := 10) C dX4_difficultyOf_191 (by decide) ?_
                refine Z.weak (L' := [(5, .int (iI (i + 1))), (4, .int (iI (shr c_2.2.2.1 f))), (3, .int (iI 0)), (2, .int (iI (((z + (1 + 1)) + 1) + 0))), (1, .int (iI f)), (0, .ref A.m)]) (kc' := 0) (ks' := 0) [0, 1, 2, 3, 7, 8] rfl (by omega) (by omega) ?_
                exact ih10 _ (by omega) (i + 1) (((z + (1 + 1)) + 1) + 0) 0 (shr c_2.2.2.1 f) (some c_2) (by omega) hdn (Or.inr ⟨c_2, by omega, rfl, rfl, by split <;> omega⟩) rfl
      · refine z_iconst (pc := 64) C dX4_difficultyOf_64 ?_
        refine z_goto (pc := 65) (tgt := 69) C dX4_difficultyOf_65 (by decide) ?_
        refine z_istore (pc := 69) (L' := [(8, .int (iI 1)), (7, .int (iI (shr c_2.2.2.1 f))), (6, .int (iI (210 + 5 * i))), (5, .int (iI i)), (4, .int (iI l)), (3, .int (iI wz)), (2, .int (iI z)), (1, .int (iI f)), (0, .ref A.m)]) C dX4_difficultyOf_69 (by rw [hnL]; decide) rfl ?_
        refine z_iload_n (pc := 71) (j := 6) C dX4_difficultyOf_71 rfl rfl ?_
        refine z_iload (pc := 72) (j := 0) C dX4_difficultyOf_72 rfl ?_
        refine z_if_eq (pc := 74) (tgt := 81) C dX4_difficultyOf_74 (by decide) (by decide) (fun z => absurd z (by decide)) (fun _ => ?_)
        refine z_iconst (pc := 77) C dX4_difficultyOf_77 ?_
        refine z_goto (pc := 78) (tgt := 82) C dX4_difficultyOf_78 (by decide) ?_
        refine z_aload_n (pc := 82) (j := 8) C dX4_difficultyOf_82 rfl rfl ?_
        refine z_getfield (pc := 83) (v := .ref A.v) C in_X4 rfl 0 (by decide) q2082 (fun _ z => z) gm_1 rfl dX4_difficultyOf_83 ?_
        refine z_iload (pc := 86) (j := 2) C dX4_difficultyOf_86 rfl ?_
        refine z_iconst (pc := 88) C dX4_difficultyOf_88 ?_
        refine z_iadd (pc := 89) C dX4_difficultyOf_89 ?_
        refine z_iaload (pc := 90) (v := .int (iI c_2.2.2.2.1)) C gv_1 (by omega) (mA_e (vE hx4_2 (by omega))) dX4_difficultyOf_90 ?_
        refine z_iconst (pc := 91) C dX4_difficultyOf_91 ?_
        refine z_icmp_le (pc := 92) (tgt := 99) C dX4_difficultyOf_92 (by decide) (by omega) (by decide) (fun c92 => ?_) (fun c92 => ?_)
        · refine z_iconst (pc := 99) C dX4_difficultyOf_99 ?_
          refine z_iadd (pc := 100) C dX4_difficultyOf_100 ?_
          refine z_iadd (pc := 101) C dX4_difficultyOf_101 ?_
          refine z_istore_n (pc := 102) (L' := [(2, .int (iI (z + (4 + 0)))), (8, .int (iI 1)), (7, .int (iI (shr c_2.2.2.1 f))), (6, .int (iI (210 + 5 * i))), (5, .int (iI i)), (4, .int (iI l)), (3, .int (iI wz)), (1, .int (iI f)), (0, .ref A.m)]) C dX4_difficultyOf_102 rfl (by rw [hnL]; decide) rfl ?_
          refine z_iload_n (pc := 103) (j := 0) C dX4_difficultyOf_103 rfl rfl ?_
          refine z_aload_n (pc := 104) (j := 8) C dX4_difficultyOf_104 rfl rfl ?_
          refine z_getfield (pc := 105) (v := .ref A.v) C in_X4 rfl 0 (by decide) q2082 (fun _ z => z) gm_1 rfl dX4_difficultyOf_105 ?_
          refine z_iload (pc := 108) (j := 3) C dX4_difficultyOf_108 rfl ?_
          refine z_iconst (pc := 110) C dX4_difficultyOf_110 ?_
          refine z_iadd (pc := 111) C dX4_difficultyOf_111 ?_
          refine z_iaload (pc := 112) (v := .int (iI c_2.2.2.2.2)) C gv_1 (by omega) (mA_e (vE hx5_2 (by omega))) dX4_difficultyOf_112 ?_
          refine z_bipush (pc := 113) C dX4_difficultyOf_113 (by decide) ?_
          refine z_icmp_eq (pc := 115) (tgt := 149) C dX4_difficultyOf_115 (by decide) (by omega) (by decide) (fun c115 => ?_) (fun c115 => ?_)
          · refine z_iconst (pc := 149) C dX4_difficultyOf_149 ?_
            refine z_iadd (pc := 150) C dX4_difficultyOf_150 ?_
            refine z_istore_n (pc := 151) (L' := [(2, .int (iI ((z + (4 + 0)) + 0))), (8, .int (iI 1)), (7, .int (iI (shr c_2.2.2.1 f))), (6, .int (iI (210 + 5 * i))), (5, .int (iI i)), (4, .int (iI l)), (3, .int (iI wz)), (1, .int (iI f)), (0, .ref A.m)]) C dX4_difficultyOf_151 rfl (by rw [hnL]; decide) rfl ?_
            refine z_iload_n (pc := 152) (j := 0) C dX4_difficultyOf_152 rfl rfl ?_
            refine z_iload (pc := 153) (j := 4) C dX4_difficultyOf_153 rfl ?_
            refine z_if_le (pc := 155) (tgt := 178) C dX4_difficultyOf_155 (by decide) (by omega) (fun c155 => ?_) (fun c155 => ?_)
            · refine z_iconst (pc := 178) C dX4_difficultyOf_178 ?_
              refine z_iadd (pc := 179) C dX4_difficultyOf_179 ?_
              refine z_istore_n (pc := 180) (L' := [(2, .int (iI (((z + (4 + 0)) + 0) + 0))), (8, .int (iI 1)), (7, .int (iI (shr c_2.2.2.1 f))), (6, .int (iI (210 + 5 * i))), (5, .int (iI i)), (4, .int (iI l)), (3, .int (iI wz)), (1, .int (iI f)), (0, .ref A.m)]) C dX4_difficultyOf_180 rfl (by rw [hnL]; decide) rfl ?_
              have hdn : ((z + (4 + 0)) + 0) + 0 + trs f (some c_2) (S.cs.drop (i + 1).toNat) + sds f (S.cs.drop (i + 1).toNat) = dif f S.cs := by
                rw [← hd, sds, sdx]
                have hsd : sdf (shr c_2.2.2.1 f) c_2.2.2.2.1 (shb c_2.2.2.1 c_2.2.2.2.2) = (if iez (shr c_2.2.2.1 f) c_2.2.2.2.1 = 1 then 1 else 4) + (if 3 < c_2.2.2.2.1 then 1 else 0) + (if c_2.2.2.2.2 ≠ 100 ∧ pcl c_2.2.2.2.2 ≠ pcl c_2.2.2.1 then 1 else 0) := rfl
                rw [hsd]
                rcases hl_ with ⟨a1, a2, a3, a4⟩ | ⟨y, a1, a2, a3, a4⟩
                · rw [a4, trs]; (repeat' split) <;> omega
                · rw [a2, trs, trd]; split at a4 <;> (repeat' split) <;> omega
              refine z_iload (pc := 181) (j := 1) C dX4_difficultyOf_181 rfl ?_
              refine z_istore_n (pc := 183) (L' := [(3, .int (iI 1)), (2, .int (iI (((z + (4 + 0)) + 0) + 0))), (8, .int (iI 1)), (7, .int (iI (shr c_2.2.2.1 f))), (6, .int (iI (210 + 5 * i))), (5, .int (iI i)), (4, .int (iI l)), (1, .int (iI f)), (0, .ref A.m)]) C dX4_difficultyOf_183 rfl (by rw [hnL]; decide) rfl ?_
              refine z_iload (pc := 184) (j := 3) C dX4_difficultyOf_184 rfl ?_
              refine z_istore (pc := 186) (L' := [(4, .int (iI (shr c_2.2.2.1 f))), (3, .int (iI 1)), (2, .int (iI (((z + (4 + 0)) + 0) + 0))), (8, .int (iI 1)), (7, .int (iI (shr c_2.2.2.1 f))), (6, .int (iI (210 + 5 * i))), (5, .int (iI i)), (1, .int (iI f)), (0, .ref A.m)]) C dX4_difficultyOf_186 (by rw [hnL]; decide) rfl ?_
              refine z_iinc (pc := 188) (k := 6) (L' := [(5, .int (iI (i + 1))), (4, .int (iI (shr c_2.2.2.1 f))), (3, .int (iI 1)), (2, .int (iI (((z + (4 + 0)) + 0) + 0))), (8, .int (iI 1)), (7, .int (iI (shr c_2.2.2.1 f))), (6, .int (iI (210 + 5 * i))), (1, .int (iI f)), (0, .ref A.m)]) C dX4_difficultyOf_188 rfl (by rw [hnL]; decide) rfl ?_
              refine z_goto (pc := 191) (tgt := 10) C dX4_difficultyOf_191 (by decide) ?_
              refine Z.weak (L' := [(5, .int (iI (i + 1))), (4, .int (iI (shr c_2.2.2.1 f))), (3, .int (iI 1)), (2, .int (iI (((z + (4 + 0)) + 0) + 0))), (1, .int (iI f)), (0, .ref A.m)]) (kc' := 0) (ks' := 0) [0, 1, 2, 3, 7, 8] rfl (by omega) (by omega) ?_
              exact ih10 _ (by omega) (i + 1) (((z + (4 + 0)) + 0) + 0) 1 (shr c_2.2.2.1 f) (some c_2) (by omega) hdn (Or.inr ⟨c_2, by omega, rfl, rfl, by split <;> omega⟩) rfl
            · refine z_iload (pc := 158) (j := 1) C dX4_difficultyOf_158 rfl ?_
              refine z_if_eq (pc := 160) (tgt := 178) C dX4_difficultyOf_160 (by decide) (by decide) (fun z => absurd z (by decide)) (fun _ => ?_)
              refine z_iload_n (pc := 163) (j := 6) C dX4_difficultyOf_163 rfl rfl ?_
              refine z_if_eq (pc := 164) (tgt := 178) C dX4_difficultyOf_164 (by decide) (by omega) (fun c164 => ?_) (fun c164 => ?_)
              · refine z_iconst (pc := 178) C dX4_difficultyOf_178 ?_
                refine z_iadd (pc := 179) C dX4_difficultyOf_179 ?_
                refine z_istore_n (pc := 180) (L' := [(2, .int (iI (((z + (4 + 0)) + 0) + 0))), (8, .int (iI 1)), (7, .int (iI (shr c_2.2.2.1 f))), (6, .int (iI (210 + 5 * i))), (5, .int (iI i)), (4, .int (iI l)), (3, .int (iI wz)), (1, .int (iI f)), (0, .ref A.m)]) C dX4_difficultyOf_180 rfl (by rw [hnL]; decide) rfl ?_
                have hdn : ((z + (4 + 0)) + 0) + 0 + trs f (some c_2) (S.cs.drop (i + 1).toNat) + sds f (S.cs.drop (i + 1).toNat) = dif f S.cs := by
                  rw [← hd, sds, sdx]
                  have hsd : sdf (shr c_2.2.2.1 f) c_2.2.2.2.1 (shb c_2.2.2.1 c_2.2.2.2.2) = (if iez (shr c_2.2.2.1 f) c_2.2.2.2.1 = 1 then 1 else 4) + (if 3 < c_2.2.2.2.1 then 1 else 0) + (if c_2.2.2.2.2 ≠ 100 ∧ pcl c_2.2.2.2.2 ≠ pcl c_2.2.2.1 then 1 else 0) := rfl
                  rw [hsd]
                  rcases hl_ with ⟨a1, a2, a3, a4⟩ | ⟨y, a1, a2, a3, a4⟩
                  · rw [a4, trs]; (repeat' split) <;> omega
                  · rw [a2, trs, trd]; split at a4 <;> (repeat' split) <;> omega
                refine z_iload (pc := 181) (j := 1) C dX4_difficultyOf_181 rfl ?_
                refine z_istore_n (pc := 183) (L' := [(3, .int (iI 1)), (2, .int (iI (((z + (4 + 0)) + 0) + 0))), (8, .int (iI 1)), (7, .int (iI (shr c_2.2.2.1 f))), (6, .int (iI (210 + 5 * i))), (5, .int (iI i)), (4, .int (iI l)), (1, .int (iI f)), (0, .ref A.m)]) C dX4_difficultyOf_183 rfl (by rw [hnL]; decide) rfl ?_
                refine z_iload (pc := 184) (j := 3) C dX4_difficultyOf_184 rfl ?_
                refine z_istore (pc := 186) (L' := [(4, .int (iI (shr c_2.2.2.1 f))), (3, .int (iI 1)), (2, .int (iI (((z + (4 + 0)) + 0) + 0))), (8, .int (iI 1)), (7, .int (iI (shr c_2.2.2.1 f))), (6, .int (iI (210 + 5 * i))), (5, .int (iI i)), (1, .int (iI f)), (0, .ref A.m)]) C dX4_difficultyOf_186 (by rw [hnL]; decide) rfl ?_
                refine z_iinc (pc := 188) (k := 6) (L' := [(5, .int (iI (i + 1))), (4, .int (iI (shr c_2.2.2.1 f))), (3, .int (iI 1)), (2, .int (iI (((z + (4 + 0)) + 0) + 0))), (8, .int (iI 1)), (7, .int (iI (shr c_2.2.2.1 f))), (6, .int (iI (210 + 5 * i))), (1, .int (iI f)), (0, .ref A.m)]) C dX4_difficultyOf_188 rfl (by rw [hnL]; decide) rfl ?_
                refine z_goto (pc := 191) (tgt := 10) C dX4_difficultyOf_191 (by decide) ?_
                refine Z.weak (L' := [(5, .int (iI (i + 1))), (4, .int (iI (shr c_2.2.2.1 f))), (3, .int (iI 1)), (2, .int (iI (((z + (4 + 0)) + 0) + 0))), (1, .int (iI f)), (0, .ref A.m)]) (kc' := 0) (ks' := 0) [0, 1, 2, 3, 7, 8] rfl (by omega) (by omega) ?_
                exact ih10 _ (by omega) (i + 1) (((z + (4 + 0)) + 0) + 0) 1 (shr c_2.2.2.1 f) (some c_2) (by omega) hdn (Or.inr ⟨c_2, by omega, rfl, rfl, by split <;> omega⟩) rfl
              · refine z_iload (pc := 167) (j := 2) C dX4_difficultyOf_167 rfl ?_
                refine z_iload (pc := 169) (j := 5) C dX4_difficultyOf_169 rfl ?_
                refine z_icmp_eq (pc := 171) (tgt := 178) C dX4_difficultyOf_171 (by decide) (by omega) (by omega) (fun c171 => ?_) (fun c171 => ?_)
                · refine z_iconst (pc := 178) C dX4_difficultyOf_178 ?_
                  refine z_iadd (pc := 179) C dX4_difficultyOf_179 ?_
                  refine z_istore_n (pc := 180) (L' := [(2, .int (iI (((z + (4 + 0)) + 0) + 0))), (8, .int (iI 1)), (7, .int (iI (shr c_2.2.2.1 f))), (6, .int (iI (210 + 5 * i))), (5, .int (iI i)), (4, .int (iI l)), (3, .int (iI wz)), (1, .int (iI f)), (0, .ref A.m)]) C dX4_difficultyOf_180 rfl (by rw [hnL]; decide) rfl ?_
                  have hdn : ((z + (4 + 0)) + 0) + 0 + trs f (some c_2) (S.cs.drop (i + 1).toNat) + sds f (S.cs.drop (i + 1).toNat) = dif f S.cs := by
                    rw [← hd, sds, sdx]
                    have hsd : sdf (shr c_2.2.2.1 f) c_2.2.2.2.1 (shb c_2.2.2.1 c_2.2.2.2.2) = (if iez (shr c_2.2.2.1 f) c_2.2.2.2.1 = 1 then 1 else 4) + (if 3 < c_2.2.2.2.1 then 1 else 0) + (if c_2.2.2.2.2 ≠ 100 ∧ pcl c_2.2.2.2.2 ≠ pcl c_2.2.2.1 then 1 else 0) := rfl
                    rw [hsd]
                    rcases hl_ with ⟨a1, a2, a3, a4⟩ | ⟨y, a1, a2, a3, a4⟩
                    · rw [a4, trs]; (repeat' split) <;> omega
                    · rw [a2, trs, trd]; split at a4 <;> (repeat' split) <;> omega
                  refine z_iload (pc := 181) (j := 1) C dX4_difficultyOf_181 rfl ?_
                  refine z_istore_n (pc := 183) (L' := [(3, .int (iI 1)), (2, .int (iI (((z + (4 + 0)) + 0) + 0))), (8, .int (iI 1)), (7, .int (iI (shr c_2.2.2.1 f))), (6, .int (iI (210 + 5 * i))), (5, .int (iI i)), (4, .int (iI l)), (1, .int (iI f)), (0, .ref A.m)]) C dX4_difficultyOf_183 rfl (by rw [hnL]; decide) rfl ?_
                  refine z_iload (pc := 184) (j := 3) C dX4_difficultyOf_184 rfl ?_
                  refine z_istore (pc := 186) (L' := [(4, .int (iI (shr c_2.2.2.1 f))), (3, .int (iI 1)), (2, .int (iI (((z + (4 + 0)) + 0) + 0))), (8, .int (iI 1)), (7, .int (iI (shr c_2.2.2.1 f))), (6, .int (iI (210 + 5 * i))), (5, .int (iI i)), (1, .int (iI f)), (0, .ref A.m)]) C dX4_difficultyOf_186 (by rw [hnL]; decide) rfl ?_
                  refine z_iinc (pc := 188) (k := 6) (L' := [(5, .int (iI (i + 1))), (4, .int (iI (shr c_2.2.2.1 f))), (3, .int (iI 1)), (2, .int (iI (((z + (4 + 0)) + 0) + 0))), (8, .int (iI 1)), (7, .int (iI (shr c_2.2.2.1 f))), (6, .int (iI (210 + 5 * i))), (1, .int (iI f)), (0, .ref A.m)]) C dX4_difficultyOf_188 rfl (by rw [hnL]; decide) rfl ?_
                  refine z_goto (pc := 191) (tgt := 10) C dX4_difficultyOf_191 (by decide) ?_
                  refine Z.weak (L' := [(5, .int (iI (i + 1))), (4, .int (iI (shr c_2.2.2.1 f))), (3, .int (iI 1)), (2, .int (iI (((z + (4 + 0)) + 0) + 0))), (1, .int (iI f)), (0, .ref A.m)]) (kc' := 0) (ks' := 0) [0, 1, 2, 3, 7, 8] rfl (by omega) (by omega) ?_
                  exact ih10 _ (by omega) (i + 1) (((z + (4 + 0)) + 0) + 0) 1 (shr c_2.2.2.1 f) (some c_2) (by omega) hdn (Or.inr ⟨c_2, by omega, rfl, rfl, by split <;> omega⟩) rfl
                · refine z_iconst (pc := 174) C dX4_difficultyOf_174 ?_
                  refine z_goto (pc := 175) (tgt := 179) C dX4_difficultyOf_175 (by decide) ?_
                  refine z_iadd (pc := 179) C dX4_difficultyOf_179 ?_
                  refine z_istore_n (pc := 180) (L' := [(2, .int (iI (((z + (4 + 0)) + 0) + 1))), (8, .int (iI 1)), (7, .int (iI (shr c_2.2.2.1 f))), (6, .int (iI (210 + 5 * i))), (5, .int (iI i)), (4, .int (iI l)), (3, .int (iI wz)), (1, .int (iI f)), (0, .ref A.m)]) C dX4_difficultyOf_180 rfl (by rw [hnL]; decide) rfl ?_
                  have hdn : ((z + (4 + 0)) + 0) + 1 + trs f (some c_2) (S.cs.drop (i + 1).toNat) + sds f (S.cs.drop (i + 1).toNat) = dif f S.cs := by
                    rw [← hd, sds, sdx]
                    have hsd : sdf (shr c_2.2.2.1 f) c_2.2.2.2.1 (shb c_2.2.2.1 c_2.2.2.2.2) = (if iez (shr c_2.2.2.1 f) c_2.2.2.2.1 = 1 then 1 else 4) + (if 3 < c_2.2.2.2.1 then 1 else 0) + (if c_2.2.2.2.2 ≠ 100 ∧ pcl c_2.2.2.2.2 ≠ pcl c_2.2.2.1 then 1 else 0) := rfl
                    rw [hsd]
                    rcases hl_ with ⟨a1, a2, a3, a4⟩ | ⟨y, a1, a2, a3, a4⟩
                    · rw [a4, trs]; (repeat' split) <;> omega
                    · rw [a2, trs, trd]; split at a4 <;> (repeat' split) <;> omega
                  refine z_iload (pc := 181) (j := 1) C dX4_difficultyOf_181 rfl ?_
                  refine z_istore_n (pc := 183) (L' := [(3, .int (iI 1)), (2, .int (iI (((z + (4 + 0)) + 0) + 1))), (8, .int (iI 1)), (7, .int (iI (shr c_2.2.2.1 f))), (6, .int (iI (210 + 5 * i))), (5, .int (iI i)), (4, .int (iI l)), (1, .int (iI f)), (0, .ref A.m)]) C dX4_difficultyOf_183 rfl (by rw [hnL]; decide) rfl ?_
                  refine z_iload (pc := 184) (j := 3) C dX4_difficultyOf_184 rfl ?_
                  refine z_istore (pc := 186) (L' := [(4, .int (iI (shr c_2.2.2.1 f))), (3, .int (iI 1)), (2, .int (iI (((z + (4 + 0)) + 0) + 1))), (8, .int (iI 1)), (7, .int (iI (shr c_2.2.2.1 f))), (6, .int (iI (210 + 5 * i))), (5, .int (iI i)), (1, .int (iI f)), (0, .ref A.m)]) C dX4_difficultyOf_186 (by rw [hnL]; decide) rfl ?_
                  refine z_iinc (pc := 188) (k := 6) (L' := [(5, .int (iI (i + 1))), (4, .int (iI (shr c_2.2.2.1 f))), (3, .int (iI 1)), (2, .int (iI (((z + (4 + 0)) + 0) + 1))), (8, .int (iI 1)), (7, .int (iI (shr c_2.2.2.1 f))), (6, .int (iI (210 + 5 * i))), (1, .int (iI f)), (0, .ref A.m)]) C dX4_difficultyOf_188 rfl (by rw [hnL]; decide) rfl ?_
                  refine z_goto (pc := 191) (tgt := 10) C dX4_difficultyOf_191 (by decide) ?_
                  refine Z.weak (L' := [(5, .int (iI (i + 1))), (4, .int (iI (shr c_2.2.2.1 f))), (3, .int (iI 1)), (2, .int (iI (((z + (4 + 0)) + 0) + 1))), (1, .int (iI f)), (0, .ref A.m)]) (kc' := 0) (ks' := 0) [0, 1, 2, 3, 7, 8] rfl (by omega) (by omega) ?_
                  exact ih10 _ (by omega) (i + 1) (((z + (4 + 0)) + 0) + 1) 1 (shr c_2.2.2.1 f) (some c_2) (by omega) hdn (Or.inr ⟨c_2, by omega, rfl, rfl, by split <;> omega⟩) rfl
          · refine z_aload_n (pc := 118) (j := 8) C dX4_difficultyOf_118 rfl rfl ?_
            refine z_getfield (pc := 119) (v := .ref A.v) C in_X4 rfl 0 (by decide) q2082 (fun _ z => z) gm_1 rfl dX4_difficultyOf_119 ?_
            refine z_iload (pc := 122) (j := 3) C dX4_difficultyOf_122 rfl ?_
            refine z_iconst (pc := 124) C dX4_difficultyOf_124 ?_
            refine z_iadd (pc := 125) C dX4_difficultyOf_125 ?_
            refine z_iaload (pc := 126) (v := .int (iI c_2.2.2.2.2)) C gv_1 (by omega) (mA_e (vE hx5_2 (by omega))) dX4_difficultyOf_126 ?_
            refine z_callS (pc := 127) (n := 1) (kc' := 0) (ks' := 0) C (m_pitch C.t (x := c_2.2.2.2.2) (by omega)) (lw_S q2218 q2219 q74 q2220) (by decide +kernel) ⟨by decide, by decide⟩ rfl rfl (Nat.le_of_ble_eq_true rfl) dX4_difficultyOf_127 (by omega) (by omega) (zpk (st' := [.int (iI (pcl c_2.2.2.2.2)), .int (iI (z + (4 + 0)))]) rfl ?_) zrx
            have hpcl130 := pcl_r c_2.2.2.2.2
            refine z_aload_n (pc := 130) (j := 8) C dX4_difficultyOf_130 rfl rfl ?_
            refine z_getfield (pc := 131) (v := .ref A.v) C in_X4 rfl 0 (by decide) q2082 (fun _ z => z) gm_1 rfl dX4_difficultyOf_131 ?_
            refine z_iload (pc := 134) (j := 3) C dX4_difficultyOf_134 rfl ?_
            refine z_iconst (pc := 136) C dX4_difficultyOf_136 ?_
            refine z_iadd (pc := 137) C dX4_difficultyOf_137 ?_
            refine z_iaload (pc := 138) (v := .int (iI c_2.2.2.1)) C gv_1 (by omega) (mA_e (vE hx3_2 (by omega))) dX4_difficultyOf_138 ?_
            refine z_callS (pc := 139) (n := 1) (kc' := 0) (ks' := 0) C (m_pitch C.t (x := c_2.2.2.1) (by omega)) (lw_S q2218 q2219 q74 q2220) (by decide +kernel) ⟨by decide, by decide⟩ rfl rfl (Nat.le_of_ble_eq_true rfl) dX4_difficultyOf_139 (by omega) (by omega) (zpk (st' := [.int (iI (pcl c_2.2.2.1)), .int (iI (pcl c_2.2.2.2.2)), .int (iI (z + (4 + 0)))]) rfl ?_) zrx
            have hpcl142 := pcl_r c_2.2.2.1
            refine z_icmp_eq (pc := 142) (tgt := 149) C dX4_difficultyOf_142 (by decide) (by omega) (by omega) (fun c142 => ?_) (fun c142 => ?_)
            · refine z_iconst (pc := 149) C dX4_difficultyOf_149 ?_
              refine z_iadd (pc := 150) C dX4_difficultyOf_150 ?_
              refine z_istore_n (pc := 151) (L' := [(2, .int (iI ((z + (4 + 0)) + 0))), (8, .int (iI 1)), (7, .int (iI (shr c_2.2.2.1 f))), (6, .int (iI (210 + 5 * i))), (5, .int (iI i)), (4, .int (iI l)), (3, .int (iI wz)), (1, .int (iI f)), (0, .ref A.m)]) C dX4_difficultyOf_151 rfl (by rw [hnL]; decide) rfl ?_
              refine z_iload_n (pc := 152) (j := 0) C dX4_difficultyOf_152 rfl rfl ?_
              refine z_iload (pc := 153) (j := 4) C dX4_difficultyOf_153 rfl ?_
              refine z_if_le (pc := 155) (tgt := 178) C dX4_difficultyOf_155 (by decide) (by omega) (fun c155 => ?_) (fun c155 => ?_)
              · refine z_iconst (pc := 178) C dX4_difficultyOf_178 ?_
                refine z_iadd (pc := 179) C dX4_difficultyOf_179 ?_
                refine z_istore_n (pc := 180) (L' := [(2, .int (iI (((z + (4 + 0)) + 0) + 0))), (8, .int (iI 1)), (7, .int (iI (shr c_2.2.2.1 f))), (6, .int (iI (210 + 5 * i))), (5, .int (iI i)), (4, .int (iI l)), (3, .int (iI wz)), (1, .int (iI f)), (0, .ref A.m)]) C dX4_difficultyOf_180 rfl (by rw [hnL]; decide) rfl ?_
                have hdn : ((z + (4 + 0)) + 0) + 0 + trs f (some c_2) (S.cs.drop (i + 1).toNat) + sds f (S.cs.drop (i + 1).toNat) = dif f S.cs := by
                  rw [← hd, sds, sdx]
                  have hsd : sdf (shr c_2.2.2.1 f) c_2.2.2.2.1 (shb c_2.2.2.1 c_2.2.2.2.2) = (if iez (shr c_2.2.2.1 f) c_2.2.2.2.1 = 1 then 1 else 4) + (if 3 < c_2.2.2.2.1 then 1 else 0) + (if c_2.2.2.2.2 ≠ 100 ∧ pcl c_2.2.2.2.2 ≠ pcl c_2.2.2.1 then 1 else 0) := rfl
                  rw [hsd]
                  rcases hl_ with ⟨a1, a2, a3, a4⟩ | ⟨y, a1, a2, a3, a4⟩
                  · rw [a4, trs]; (repeat' split) <;> omega
                  · rw [a2, trs, trd]; split at a4 <;> (repeat' split) <;> omega
                refine z_iload (pc := 181) (j := 1) C dX4_difficultyOf_181 rfl ?_
                refine z_istore_n (pc := 183) (L' := [(3, .int (iI 1)), (2, .int (iI (((z + (4 + 0)) + 0) + 0))), (8, .int (iI 1)), (7, .int (iI (shr c_2.2.2.1 f))), (6, .int (iI (210 + 5 * i))), (5, .int (iI i)), (4, .int (iI l)), (1, .int (iI f)), (0, .ref A.m)]) C dX4_difficultyOf_183 rfl (by rw [hnL]; decide) rfl ?_
                refine z_iload (pc := 184) (j := 3) C dX4_difficultyOf_184 rfl ?_
                refine z_istore (pc := 186) (L' := [(4, .int (iI (shr c_2.2.2.1 f))), (3, .int (iI 1)), (2, .int (iI (((z + (4 + 0)) + 0) + 0))), (8, .int (iI 1)), (7, .int (iI (shr c_2.2.2.1 f))), (6, .int (iI (210 + 5 * i))), (5, .int (iI i)), (1, .int (iI f)), (0, .ref A.m)]) C dX4_difficultyOf_186 (by rw [hnL]; decide) rfl ?_
                refine z_iinc (pc := 188) (k := 6) (L' := [(5, .int (iI (i + 1))), (4, .int (iI (shr c_2.2.2.1 f))), (3, .int (iI 1)), (2, .int (iI (((z + (4 + 0)) + 0) + 0))), (8, .int (iI 1)), (7, .int (iI (shr c_2.2.2.1 f))), (6, .int (iI (210 + 5 * i))), (1, .int (iI f)), (0, .ref A.m)]) C dX4_difficultyOf_188 rfl (by rw [hnL]; decide) rfl ?_
                refine z_goto (pc := 191) (tgt := 10) C dX4_difficultyOf_191 (by decide) ?_
                refine Z.weak (L' := [(5, .int (iI (i + 1))), (4, .int (iI (shr c_2.2.2.1 f))), (3, .int (iI 1)), (2, .int (iI (((z + (4 + 0)) + 0) + 0))), (1, .int (iI f)), (0, .ref A.m)]) (kc' := 0) (ks' := 0) [0, 1, 2, 3, 7, 8] rfl (by omega) (by omega) ?_
                exact ih10 _ (by omega) (i + 1) (((z + (4 + 0)) + 0) + 0) 1 (shr c_2.2.2.1 f) (some c_2) (by omega) hdn (Or.inr ⟨c_2, by omega, rfl, rfl, by split <;> omega⟩) rfl
              · refine z_iload (pc := 158) (j := 1) C dX4_difficultyOf_158 rfl ?_
                refine z_if_eq (pc := 160) (tgt := 178) C dX4_difficultyOf_160 (by decide) (by decide) (fun z => absurd z (by decide)) (fun _ => ?_)
                refine z_iload_n (pc := 163) (j := 6) C dX4_difficultyOf_163 rfl rfl ?_
                refine z_if_eq (pc := 164) (tgt := 178) C dX4_difficultyOf_164 (by decide) (by omega) (fun c164 => ?_) (fun c164 => ?_)
                · refine z_iconst (pc := 178) C dX4_difficultyOf_178 ?_
                  refine z_iadd (pc := 179) C dX4_difficultyOf_179 ?_
                  refine z_istore_n (pc := 180) (L' := [(2, .int (iI (((z + (4 + 0)) + 0) + 0))), (8, .int (iI 1)), (7, .int (iI (shr c_2.2.2.1 f))), (6, .int (iI (210 + 5 * i))), (5, .int (iI i)), (4, .int (iI l)), (3, .int (iI wz)), (1, .int (iI f)), (0, .ref A.m)]) C dX4_difficultyOf_180 rfl (by rw [hnL]; decide) rfl ?_
                  have hdn : ((z + (4 + 0)) + 0) + 0 + trs f (some c_2) (S.cs.drop (i + 1).toNat) + sds f (S.cs.drop (i + 1).toNat) = dif f S.cs := by
                    rw [← hd, sds, sdx]
                    have hsd : sdf (shr c_2.2.2.1 f) c_2.2.2.2.1 (shb c_2.2.2.1 c_2.2.2.2.2) = (if iez (shr c_2.2.2.1 f) c_2.2.2.2.1 = 1 then 1 else 4) + (if 3 < c_2.2.2.2.1 then 1 else 0) + (if c_2.2.2.2.2 ≠ 100 ∧ pcl c_2.2.2.2.2 ≠ pcl c_2.2.2.1 then 1 else 0) := rfl
                    rw [hsd]
                    rcases hl_ with ⟨a1, a2, a3, a4⟩ | ⟨y, a1, a2, a3, a4⟩
                    · rw [a4, trs]; (repeat' split) <;> omega
                    · rw [a2, trs, trd]; split at a4 <;> (repeat' split) <;> omega
                  refine z_iload (pc := 181) (j := 1) C dX4_difficultyOf_181 rfl ?_
                  refine z_istore_n (pc := 183) (L' := [(3, .int (iI 1)), (2, .int (iI (((z + (4 + 0)) + 0) + 0))), (8, .int (iI 1)), (7, .int (iI (shr c_2.2.2.1 f))), (6, .int (iI (210 + 5 * i))), (5, .int (iI i)), (4, .int (iI l)), (1, .int (iI f)), (0, .ref A.m)]) C dX4_difficultyOf_183 rfl (by rw [hnL]; decide) rfl ?_
                  refine z_iload (pc := 184) (j := 3) C dX4_difficultyOf_184 rfl ?_
                  refine z_istore (pc := 186) (L' := [(4, .int (iI (shr c_2.2.2.1 f))), (3, .int (iI 1)), (2, .int (iI (((z + (4 + 0)) + 0) + 0))), (8, .int (iI 1)), (7, .int (iI (shr c_2.2.2.1 f))), (6, .int (iI (210 + 5 * i))), (5, .int (iI i)), (1, .int (iI f)), (0, .ref A.m)]) C dX4_difficultyOf_186 (by rw [hnL]; decide) rfl ?_
                  refine z_iinc (pc := 188) (k := 6) (L' := [(5, .int (iI (i + 1))), (4, .int (iI (shr c_2.2.2.1 f))), (3, .int (iI 1)), (2, .int (iI (((z + (4 + 0)) + 0) + 0))), (8, .int (iI 1)), (7, .int (iI (shr c_2.2.2.1 f))), (6, .int (iI (210 + 5 * i))), (1, .int (iI f)), (0, .ref A.m)]) C dX4_difficultyOf_188 rfl (by rw [hnL]; decide) rfl ?_
                  refine z_goto (pc := 191) (tgt := 10) C dX4_difficultyOf_191 (by decide) ?_
                  refine Z.weak (L' := [(5, .int (iI (i + 1))), (4, .int (iI (shr c_2.2.2.1 f))), (3, .int (iI 1)), (2, .int (iI (((z + (4 + 0)) + 0) + 0))), (1, .int (iI f)), (0, .ref A.m)]) (kc' := 0) (ks' := 0) [0, 1, 2, 3, 7, 8] rfl (by omega) (by omega) ?_
                  exact ih10 _ (by omega) (i + 1) (((z + (4 + 0)) + 0) + 0) 1 (shr c_2.2.2.1 f) (some c_2) (by omega) hdn (Or.inr ⟨c_2, by omega, rfl, rfl, by split <;> omega⟩) rfl
                · refine z_iload (pc := 167) (j := 2) C dX4_difficultyOf_167 rfl ?_
                  refine z_iload (pc := 169) (j := 5) C dX4_difficultyOf_169 rfl ?_
                  refine z_icmp_eq (pc := 171) (tgt := 178) C dX4_difficultyOf_171 (by decide) (by omega) (by omega) (fun c171 => ?_) (fun c171 => ?_)
                  · refine z_iconst (pc := 178) C dX4_difficultyOf_178 ?_
                    refine z_iadd (pc := 179) C dX4_difficultyOf_179 ?_
                    refine z_istore_n (pc := 180) (L' := [(2, .int (iI (((z + (4 + 0)) + 0) + 0))), (8, .int (iI 1)), (7, .int (iI (shr c_2.2.2.1 f))), (6, .int (iI (210 + 5 * i))), (5, .int (iI i)), (4, .int (iI l)), (3, .int (iI wz)), (1, .int (iI f)), (0, .ref A.m)]) C dX4_difficultyOf_180 rfl (by rw [hnL]; decide) rfl ?_
                    have hdn : ((z + (4 + 0)) + 0) + 0 + trs f (some c_2) (S.cs.drop (i + 1).toNat) + sds f (S.cs.drop (i + 1).toNat) = dif f S.cs := by
                      rw [← hd, sds, sdx]
                      have hsd : sdf (shr c_2.2.2.1 f) c_2.2.2.2.1 (shb c_2.2.2.1 c_2.2.2.2.2) = (if iez (shr c_2.2.2.1 f) c_2.2.2.2.1 = 1 then 1 else 4) + (if 3 < c_2.2.2.2.1 then 1 else 0) + (if c_2.2.2.2.2 ≠ 100 ∧ pcl c_2.2.2.2.2 ≠ pcl c_2.2.2.1 then 1 else 0) := rfl
                      rw [hsd]
                      rcases hl_ with ⟨a1, a2, a3, a4⟩ | ⟨y, a1, a2, a3, a4⟩
                      · rw [a4, trs]; (repeat' split) <;> omega
                      · rw [a2, trs, trd]; split at a4 <;> (repeat' split) <;> omega
                    refine z_iload (pc := 181) (j := 1) C dX4_difficultyOf_181 rfl ?_
                    refine z_istore_n (pc := 183) (L' := [(3, .int (iI 1)), (2, .int (iI (((z + (4 + 0)) + 0) + 0))), (8, .int (iI 1)), (7, .int (iI (shr c_2.2.2.1 f))), (6, .int (iI (210 + 5 * i))), (5, .int (iI i)), (4, .int (iI l)), (1, .int (iI f)), (0, .ref A.m)]) C dX4_difficultyOf_183 rfl (by rw [hnL]; decide) rfl ?_
                    refine z_iload (pc := 184) (j := 3) C dX4_difficultyOf_184 rfl ?_
                    refine z_istore (pc := 186) (L' := [(4, .int (iI (shr c_2.2.2.1 f))), (3, .int (iI 1)), (2, .int (iI (((z + (4 + 0)) + 0) + 0))), (8, .int (iI 1)), (7, .int (iI (shr c_2.2.2.1 f))), (6, .int (iI (210 + 5 * i))), (5, .int (iI i)), (1, .int (iI f)), (0, .ref A.m)]) C dX4_difficultyOf_186 (by rw [hnL]; decide) rfl ?_
                    refine z_iinc (pc := 188) (k := 6) (L' := [(5, .int (iI (i + 1))), (4, .int (iI (shr c_2.2.2.1 f))), (3, .int (iI 1)), (2, .int (iI (((z + (4 + 0)) + 0) + 0))), (8, .int (iI 1)), (7, .int (iI (shr c_2.2.2.1 f))), (6, .int (iI (210 + 5 * i))), (1, .int (iI f)), (0, .ref A.m)]) C dX4_difficultyOf_188 rfl (by rw [hnL]; decide) rfl ?_
                    refine z_goto (pc := 191) (tgt := 10) C dX4_difficultyOf_191 (by decide) ?_
                    refine Z.weak (L' := [(5, .int (iI (i + 1))), (4, .int (iI (shr c_2.2.2.1 f))), (3, .int (iI 1)), (2, .int (iI (((z + (4 + 0)) + 0) + 0))), (1, .int (iI f)), (0, .ref A.m)]) (kc' := 0) (ks' := 0) [0, 1, 2, 3, 7, 8] rfl (by omega) (by omega) ?_
                    exact ih10 _ (by omega) (i + 1) (((z + (4 + 0)) + 0) + 0) 1 (shr c_2.2.2.1 f) (some c_2) (by omega) hdn (Or.inr ⟨c_2, by omega, rfl, rfl, by split <;> omega⟩) rfl
                  · refine z_iconst (pc := 174) C dX4_difficultyOf_174 ?_
                    refine z_goto (pc := 175) (tgt := 179) C dX4_difficultyOf_175 (by decide) ?_
                    refine z_iadd (pc := 179) C dX4_difficultyOf_179 ?_
                    refine z_istore_n (pc := 180) (L' := [(2, .int (iI (((z + (4 + 0)) + 0) + 1))), (8, .int (iI 1)), (7, .int (iI (shr c_2.2.2.1 f))), (6, .int (iI (210 + 5 * i))), (5, .int (iI i)), (4, .int (iI l)), (3, .int (iI wz)), (1, .int (iI f)), (0, .ref A.m)]) C dX4_difficultyOf_180 rfl (by rw [hnL]; decide) rfl ?_
                    have hdn : ((z + (4 + 0)) + 0) + 1 + trs f (some c_2) (S.cs.drop (i + 1).toNat) + sds f (S.cs.drop (i + 1).toNat) = dif f S.cs := by
                      rw [← hd, sds, sdx]
                      have hsd : sdf (shr c_2.2.2.1 f) c_2.2.2.2.1 (shb c_2.2.2.1 c_2.2.2.2.2) = (if iez (shr c_2.2.2.1 f) c_2.2.2.2.1 = 1 then 1 else 4) + (if 3 < c_2.2.2.2.1 then 1 else 0) + (if c_2.2.2.2.2 ≠ 100 ∧ pcl c_2.2.2.2.2 ≠ pcl c_2.2.2.1 then 1 else 0) := rfl
                      rw [hsd]
                      rcases hl_ with ⟨a1, a2, a3, a4⟩ | ⟨y, a1, a2, a3, a4⟩
                      · rw [a4, trs]; (repeat' split) <;> omega
                      · rw [a2, trs, trd]; split at a4 <;> (repeat' split) <;> omega
                    refine z_iload (pc := 181) (j := 1) C dX4_difficultyOf_181 rfl ?_
                    refine z_istore_n (pc := 183) (L' := [(3, .int (iI 1)), (2, .int (iI (((z + (4 + 0)) + 0) + 1))), (8, .int (iI 1)), (7, .int (iI (shr c_2.2.2.1 f))), (6, .int (iI (210 + 5 * i))), (5, .int (iI i)), (4, .int (iI l)), (1, .int (iI f)), (0, .ref A.m)]) C dX4_difficultyOf_183 rfl (by rw [hnL]; decide) rfl ?_
                    refine z_iload (pc := 184) (j := 3) C dX4_difficultyOf_184 rfl ?_
                    refine z_istore (pc := 186) (L' := [(4, .int (iI (shr c_2.2.2.1 f))), (3, .int (iI 1)), (2, .int (iI (((z + (4 + 0)) + 0) + 1))), (8, .int (iI 1)), (7, .int (iI (shr c_2.2.2.1 f))), (6, .int (iI (210 + 5 * i))), (5, .int (iI i)), (1, .int (iI f)), (0, .ref A.m)]) C dX4_difficultyOf_186 (by rw [hnL]; decide) rfl ?_
                    refine z_iinc (pc := 188) (k := 6) (L' := [(5, .int (iI (i + 1))), (4, .int (iI (shr c_2.2.2.1 f))), (3, .int (iI 1)), (2, .int (iI (((z + (4 + 0)) + 0) + 1))), (8, .int (iI 1)), (7, .int (iI (shr c_2.2.2.1 f))), (6, .int (iI (210 + 5 * i))), (1, .int (iI f)), (0, .ref A.m)]) C dX4_difficultyOf_188 rfl (by rw [hnL]; decide) rfl ?_
                    refine z_goto (pc := 191) (tgt := 10) C dX4_difficultyOf_191 (by decide) ?_
                    refine Z.weak (L' := [(5, .int (iI (i + 1))), (4, .int (iI (shr c_2.2.2.1 f))), (3, .int (iI 1)), (2, .int (iI (((z + (4 + 0)) + 0) + 1))), (1, .int (iI f)), (0, .ref A.m)]) (kc' := 0) (ks' := 0) [0, 1, 2, 3, 7, 8] rfl (by omega) (by omega) ?_
                    exact ih10 _ (by omega) (i + 1) (((z + (4 + 0)) + 0) + 1) 1 (shr c_2.2.2.1 f) (some c_2) (by omega) hdn (Or.inr ⟨c_2, by omega, rfl, rfl, by split <;> omega⟩) rfl
            · refine z_iconst (pc := 145) C dX4_difficultyOf_145 ?_
              refine z_goto (pc := 146) (tgt := 150) C dX4_difficultyOf_146 (by decide) ?_
              refine z_iadd (pc := 150) C dX4_difficultyOf_150 ?_
              refine z_istore_n (pc := 151) (L' := [(2, .int (iI ((z + (4 + 0)) + 1))), (8, .int (iI 1)), (7, .int (iI (shr c_2.2.2.1 f))), (6, .int (iI (210 + 5 * i))), (5, .int (iI i)), (4, .int (iI l)), (3, .int (iI wz)), (1, .int (iI f)), (0, .ref A.m)]) C dX4_difficultyOf_151 rfl (by rw [hnL]; decide) rfl ?_
              refine z_iload_n (pc := 152) (j := 0) C dX4_difficultyOf_152 rfl rfl ?_
              refine z_iload (pc := 153) (j := 4) C dX4_difficultyOf_153 rfl ?_
              refine z_if_le (pc := 155) (tgt := 178) C dX4_difficultyOf_155 (by decide) (by omega) (fun c155 => ?_) (fun c155 => ?_)
              · refine z_iconst (pc := 178) C dX4_difficultyOf_178 ?_
                refine z_iadd (pc := 179) C dX4_difficultyOf_179 ?_
                refine z_istore_n (pc := 180) (L' := [(2, .int (iI (((z + (4 + 0)) + 1) + 0))), (8, .int (iI 1)), (7, .int (iI (shr c_2.2.2.1 f))), (6, .int (iI (210 + 5 * i))), (5, .int (iI i)), (4, .int (iI l)), (3, .int (iI wz)), (1, .int (iI f)), (0, .ref A.m)]) C dX4_difficultyOf_180 rfl (by rw [hnL]; decide) rfl ?_
                have hdn : ((z + (4 + 0)) + 1) + 0 + trs f (some c_2) (S.cs.drop (i + 1).toNat) + sds f (S.cs.drop (i + 1).toNat) = dif f S.cs := by
                  rw [← hd, sds, sdx]
                  have hsd : sdf (shr c_2.2.2.1 f) c_2.2.2.2.1 (shb c_2.2.2.1 c_2.2.2.2.2) = (if iez (shr c_2.2.2.1 f) c_2.2.2.2.1 = 1 then 1 else 4) + (if 3 < c_2.2.2.2.1 then 1 else 0) + (if c_2.2.2.2.2 ≠ 100 ∧ pcl c_2.2.2.2.2 ≠ pcl c_2.2.2.1 then 1 else 0) := rfl
                  rw [hsd]
                  rcases hl_ with ⟨a1, a2, a3, a4⟩ | ⟨y, a1, a2, a3, a4⟩
                  · rw [a4, trs]; (repeat' split) <;> omega
                  · rw [a2, trs, trd]; split at a4 <;> (repeat' split) <;> omega
                refine z_iload (pc := 181) (j := 1) C dX4_difficultyOf_181 rfl ?_
                refine z_istore_n (pc := 183) (L' := [(3, .int (iI 1)), (2, .int (iI (((z + (4 + 0)) + 1) + 0))), (8, .int (iI 1)), (7, .int (iI (shr c_2.2.2.1 f))), (6, .int (iI (210 + 5 * i))), (5, .int (iI i)), (4, .int (iI l)), (1, .int (iI f)), (0, .ref A.m)]) C dX4_difficultyOf_183 rfl (by rw [hnL]; decide) rfl ?_
                refine z_iload (pc := 184) (j := 3) C dX4_difficultyOf_184 rfl ?_
                refine z_istore (pc := 186) (L' := [(4, .int (iI (shr c_2.2.2.1 f))), (3, .int (iI 1)), (2, .int (iI (((z + (4 + 0)) + 1) + 0))), (8, .int (iI 1)), (7, .int (iI (shr c_2.2.2.1 f))), (6, .int (iI (210 + 5 * i))), (5, .int (iI i)), (1, .int (iI f)), (0, .ref A.m)]) C dX4_difficultyOf_186 (by rw [hnL]; decide) rfl ?_
                refine z_iinc (pc := 188) (k := 6) (L' := [(5, .int (iI (i + 1))), (4, .int (iI (shr c_2.2.2.1 f))), (3, .int (iI 1)), (2, .int (iI (((z + (4 + 0)) + 1) + 0))), (8, .int (iI 1)), (7, .int (iI (shr c_2.2.2.1 f))), (6, .int (iI (210 + 5 * i))), (1, .int (iI f)), (0, .ref A.m)]) C dX4_difficultyOf_188 rfl (by rw [hnL]; decide) rfl ?_
                refine z_goto (pc := 191) (tgt := 10) C dX4_difficultyOf_191 (by decide) ?_
                refine Z.weak (L' := [(5, .int (iI (i + 1))), (4, .int (iI (shr c_2.2.2.1 f))), (3, .int (iI 1)), (2, .int (iI (((z + (4 + 0)) + 1) + 0))), (1, .int (iI f)), (0, .ref A.m)]) (kc' := 0) (ks' := 0) [0, 1, 2, 3, 7, 8] rfl (by omega) (by omega) ?_
                exact ih10 _ (by omega) (i + 1) (((z + (4 + 0)) + 1) + 0) 1 (shr c_2.2.2.1 f) (some c_2) (by omega) hdn (Or.inr ⟨c_2, by omega, rfl, rfl, by split <;> omega⟩) rfl
              · refine z_iload (pc := 158) (j := 1) C dX4_difficultyOf_158 rfl ?_
                refine z_if_eq (pc := 160) (tgt := 178) C dX4_difficultyOf_160 (by decide) (by decide) (fun z => absurd z (by decide)) (fun _ => ?_)
                refine z_iload_n (pc := 163) (j := 6) C dX4_difficultyOf_163 rfl rfl ?_
                refine z_if_eq (pc := 164) (tgt := 178) C dX4_difficultyOf_164 (by decide) (by omega) (fun c164 => ?_) (fun c164 => ?_)
                · refine z_iconst (pc := 178) C dX4_difficultyOf_178 ?_
                  refine z_iadd (pc := 179) C dX4_difficultyOf_179 ?_
                  refine z_istore_n (pc := 180) (L' := [(2, .int (iI (((z + (4 + 0)) + 1) + 0))), (8, .int (iI 1)), (7, .int (iI (shr c_2.2.2.1 f))), (6, .int (iI (210 + 5 * i))), (5, .int (iI i)), (4, .int (iI l)), (3, .int (iI wz)), (1, .int (iI f)), (0, .ref A.m)]) C dX4_difficultyOf_180 rfl (by rw [hnL]; decide) rfl ?_
                  have hdn : ((z + (4 + 0)) + 1) + 0 + trs f (some c_2) (S.cs.drop (i + 1).toNat) + sds f (S.cs.drop (i + 1).toNat) = dif f S.cs := by
                    rw [← hd, sds, sdx]
                    have hsd : sdf (shr c_2.2.2.1 f) c_2.2.2.2.1 (shb c_2.2.2.1 c_2.2.2.2.2) = (if iez (shr c_2.2.2.1 f) c_2.2.2.2.1 = 1 then 1 else 4) + (if 3 < c_2.2.2.2.1 then 1 else 0) + (if c_2.2.2.2.2 ≠ 100 ∧ pcl c_2.2.2.2.2 ≠ pcl c_2.2.2.1 then 1 else 0) := rfl
                    rw [hsd]
                    rcases hl_ with ⟨a1, a2, a3, a4⟩ | ⟨y, a1, a2, a3, a4⟩
                    · rw [a4, trs]; (repeat' split) <;> omega
                    · rw [a2, trs, trd]; split at a4 <;> (repeat' split) <;> omega
                  refine z_iload (pc := 181) (j := 1) C dX4_difficultyOf_181 rfl ?_
                  refine z_istore_n (pc := 183) (L' := [(3, .int (iI 1)), (2, .int (iI (((z + (4 + 0)) + 1) + 0))), (8, .int (iI 1)), (7, .int (iI (shr c_2.2.2.1 f))), (6, .int (iI (210 + 5 * i))), (5, .int (iI i)), (4, .int (iI l)), (1, .int (iI f)), (0, .ref A.m)]) C dX4_difficultyOf_183 rfl (by rw [hnL]; decide) rfl ?_
                  refine z_iload (pc := 184) (j := 3) C dX4_difficultyOf_184 rfl ?_
                  refine z_istore (pc := 186) (L' := [(4, .int (iI (shr c_2.2.2.1 f))), (3, .int (iI 1)), (2, .int (iI (((z + (4 + 0)) + 1) + 0))), (8, .int (iI 1)), (7, .int (iI (shr c_2.2.2.1 f))), (6, .int (iI (210 + 5 * i))), (5, .int (iI i)), (1, .int (iI f)), (0, .ref A.m)]) C dX4_difficultyOf_186 (by rw [hnL]; decide) rfl ?_
                  refine z_iinc (pc := 188) (k := 6) (L' := [(5, .int (iI (i + 1))), (4, .int (iI (shr c_2.2.2.1 f))), (3, .int (iI 1)), (2, .int (iI (((z + (4 + 0)) + 1) + 0))), (8, .int (iI 1)), (7, .int (iI (shr c_2.2.2.1 f))), (6, .int (iI (210 + 5 * i))), (1, .int (iI f)), (0, .ref A.m)]) C dX4_difficultyOf_188 rfl (by rw [hnL]; decide) rfl ?_
                  refine z_goto (pc := 191) (tgt := 10) C dX4_difficultyOf_191 (by decide) ?_
                  refine Z.weak (L' := [(5, .int (iI (i + 1))), (4, .int (iI (shr c_2.2.2.1 f))), (3, .int (iI 1)), (2, .int (iI (((z + (4 + 0)) + 1) + 0))), (1, .int (iI f)), (0, .ref A.m)]) (kc' := 0) (ks' := 0) [0, 1, 2, 3, 7, 8] rfl (by omega) (by omega) ?_
                  exact ih10 _ (by omega) (i + 1) (((z + (4 + 0)) + 1) + 0) 1 (shr c_2.2.2.1 f) (some c_2) (by omega) hdn (Or.inr ⟨c_2, by omega, rfl, rfl, by split <;> omega⟩) rfl
                · refine z_iload (pc := 167) (j := 2) C dX4_difficultyOf_167 rfl ?_
                  refine z_iload (pc := 169) (j := 5) C dX4_difficultyOf_169 rfl ?_
                  refine z_icmp_eq (pc := 171) (tgt := 178) C dX4_difficultyOf_171 (by decide) (by omega) (by omega) (fun c171 => ?_) (fun c171 => ?_)
                  · refine z_iconst (pc := 178) C dX4_difficultyOf_178 ?_
                    refine z_iadd (pc := 179) C dX4_difficultyOf_179 ?_
                    refine z_istore_n (pc := 180) (L' := [(2, .int (iI (((z + (4 + 0)) + 1) + 0))), (8, .int (iI 1)), (7, .int (iI (shr c_2.2.2.1 f))), (6, .int (iI (210 + 5 * i))), (5, .int (iI i)), (4, .int (iI l)), (3, .int (iI wz)), (1, .int (iI f)), (0, .ref A.m)]) C dX4_difficultyOf_180 rfl (by rw [hnL]; decide) rfl ?_
                    have hdn : ((z + (4 + 0)) + 1) + 0 + trs f (some c_2) (S.cs.drop (i + 1).toNat) + sds f (S.cs.drop (i + 1).toNat) = dif f S.cs := by
                      rw [← hd, sds, sdx]
                      have hsd : sdf (shr c_2.2.2.1 f) c_2.2.2.2.1 (shb c_2.2.2.1 c_2.2.2.2.2) = (if iez (shr c_2.2.2.1 f) c_2.2.2.2.1 = 1 then 1 else 4) + (if 3 < c_2.2.2.2.1 then 1 else 0) + (if c_2.2.2.2.2 ≠ 100 ∧ pcl c_2.2.2.2.2 ≠ pcl c_2.2.2.1 then 1 else 0) := rfl
                      rw [hsd]
                      rcases hl_ with ⟨a1, a2, a3, a4⟩ | ⟨y, a1, a2, a3, a4⟩
                      · rw [a4, trs]; (repeat' split) <;> omega
                      · rw [a2, trs, trd]; split at a4 <;> (repeat' split) <;> omega
                    refine z_iload (pc := 181) (j := 1) C dX4_difficultyOf_181 rfl ?_
                    refine z_istore_n (pc := 183) (L' := [(3, .int (iI 1)), (2, .int (iI (((z + (4 + 0)) + 1) + 0))), (8, .int (iI 1)), (7, .int (iI (shr c_2.2.2.1 f))), (6, .int (iI (210 + 5 * i))), (5, .int (iI i)), (4, .int (iI l)), (1, .int (iI f)), (0, .ref A.m)]) C dX4_difficultyOf_183 rfl (by rw [hnL]; decide) rfl ?_
                    refine z_iload (pc := 184) (j := 3) C dX4_difficultyOf_184 rfl ?_
                    refine z_istore (pc := 186) (L' := [(4, .int (iI (shr c_2.2.2.1 f))), (3, .int (iI 1)), (2, .int (iI (((z + (4 + 0)) + 1) + 0))), (8, .int (iI 1)), (7, .int (iI (shr c_2.2.2.1 f))), (6, .int (iI (210 + 5 * i))), (5, .int (iI i)), (1, .int (iI f)), (0, .ref A.m)]) C dX4_difficultyOf_186 (by rw [hnL]; decide) rfl ?_
                    refine z_iinc (pc := 188) (k := 6) (L' := [(5, .int (iI (i + 1))), (4, .int (iI (shr c_2.2.2.1 f))), (3, .int (iI 1)), (2, .int (iI (((z + (4 + 0)) + 1) + 0))), (8, .int (iI 1)), (7, .int (iI (shr c_2.2.2.1 f))), (6, .int (iI (210 + 5 * i))), (1, .int (iI f)), (0, .ref A.m)]) C dX4_difficultyOf_188 rfl (by rw [hnL]; decide) rfl ?_
                    refine z_goto (pc := 191) (tgt := 10) C dX4_difficultyOf_191 (by decide) ?_
                    refine Z.weak (L' := [(5, .int (iI (i + 1))), (4, .int (iI (shr c_2.2.2.1 f))), (3, .int (iI 1)), (2, .int (iI (((z + (4 + 0)) + 1) + 0))), (1, .int (iI f)), (0, .ref A.m)]) (kc' := 0) (ks' := 0) [0, 1, 2, 3, 7, 8] rfl (by omega) (by omega) ?_
                    exact ih10 _ (by omega) (i + 1) (((z + (4 + 0)) + 1) + 0) 1 (shr c_2.2.2.1 f) (some c_2) (by omega) hdn (Or.inr ⟨c_2, by omega, rfl, rfl, by split <;> omega⟩) rfl
                  · refine z_iconst (pc := 174) C dX4_difficultyOf_174 ?_
                    refine z_goto (pc := 175) (tgt := 179) C dX4_difficultyOf_175 (by decide) ?_
                    refine z_iadd (pc := 179) C dX4_difficultyOf_179 ?_
                    refine z_istore_n (pc := 180) (L' := [(2, .int (iI (((z + (4 + 0)) + 1) + 1))), (8, .int (iI 1)), (7, .int (iI (shr c_2.2.2.1 f))), (6, .int (iI (210 + 5 * i))), (5, .int (iI i)), (4, .int (iI l)), (3, .int (iI wz)), (1, .int (iI f)), (0, .ref A.m)]) C dX4_difficultyOf_180 rfl (by rw [hnL]; decide) rfl ?_
                    have hdn : ((z + (4 + 0)) + 1) + 1 + trs f (some c_2) (S.cs.drop (i + 1).toNat) + sds f (S.cs.drop (i + 1).toNat) = dif f S.cs := by
                      rw [← hd, sds, sdx]
                      have hsd : sdf (shr c_2.2.2.1 f) c_2.2.2.2.1 (shb c_2.2.2.1 c_2.2.2.2.2) = (if iez (shr c_2.2.2.1 f) c_2.2.2.2.1 = 1 then 1 else 4) + (if 3 < c_2.2.2.2.1 then 1 else 0) + (if c_2.2.2.2.2 ≠ 100 ∧ pcl c_2.2.2.2.2 ≠ pcl c_2.2.2.1 then 1 else 0) := rfl
                      rw [hsd]
                      rcases hl_ with ⟨a1, a2, a3, a4⟩ | ⟨y, a1, a2, a3, a4⟩
                      · rw [a4, trs]; (repeat' split) <;> omega
                      · rw [a2, trs, trd]; split at a4 <;> (repeat' split) <;> omega
                    refine z_iload (pc := 181) (j := 1) C dX4_difficultyOf_181 rfl ?_
                    refine z_istore_n (pc := 183) (L' := [(3, .int (iI 1)), (2, .int (iI (((z + (4 + 0)) + 1) + 1))), (8, .int (iI 1)), (7, .int (iI (shr c_2.2.2.1 f))), (6, .int (iI (210 + 5 * i))), (5, .int (iI i)), (4, .int (iI l)), (1, .int (iI f)), (0, .ref A.m)]) C dX4_difficultyOf_183 rfl (by rw [hnL]; decide) rfl ?_
                    refine z_iload (pc := 184) (j := 3) C dX4_difficultyOf_184 rfl ?_
                    refine z_istore (pc := 186) (L' := [(4, .int (iI (shr c_2.2.2.1 f))), (3, .int (iI 1)), (2, .int (iI (((z + (4 + 0)) + 1) + 1))), (8, .int (iI 1)), (7, .int (iI (shr c_2.2.2.1 f))), (6, .int (iI (210 + 5 * i))), (5, .int (iI i)), (1, .int (iI f)), (0, .ref A.m)]) C dX4_difficultyOf_186 (by rw [hnL]; decide) rfl ?_
                    refine z_iinc (pc := 188) (k := 6) (L' := [(5, .int (iI (i + 1))), (4, .int (iI (shr c_2.2.2.1 f))), (3, .int (iI 1)), (2, .int (iI (((z + (4 + 0)) + 1) + 1))), (8, .int (iI 1)), (7, .int (iI (shr c_2.2.2.1 f))), (6, .int (iI (210 + 5 * i))), (1, .int (iI f)), (0, .ref A.m)]) C dX4_difficultyOf_188 rfl (by rw [hnL]; decide) rfl ?_
                    refine z_goto (pc := 191) (tgt := 10) C dX4_difficultyOf_191 (by decide) ?_
                    refine Z.weak (L' := [(5, .int (iI (i + 1))), (4, .int (iI (shr c_2.2.2.1 f))), (3, .int (iI 1)), (2, .int (iI (((z + (4 + 0)) + 1) + 1))), (1, .int (iI f)), (0, .ref A.m)]) (kc' := 0) (ks' := 0) [0, 1, 2, 3, 7, 8] rfl (by omega) (by omega) ?_
                    exact ih10 _ (by omega) (i + 1) (((z + (4 + 0)) + 1) + 1) 1 (shr c_2.2.2.1 f) (some c_2) (by omega) hdn (Or.inr ⟨c_2, by omega, rfl, rfl, by split <;> omega⟩) rfl
        · refine z_iconst (pc := 95) C dX4_difficultyOf_95 ?_
          refine z_goto (pc := 96) (tgt := 100) C dX4_difficultyOf_96 (by decide) ?_
          refine z_iadd (pc := 100) C dX4_difficultyOf_100 ?_
          refine z_iadd (pc := 101) C dX4_difficultyOf_101 ?_
          refine z_istore_n (pc := 102) (L' := [(2, .int (iI (z + (4 + 1)))), (8, .int (iI 1)), (7, .int (iI (shr c_2.2.2.1 f))), (6, .int (iI (210 + 5 * i))), (5, .int (iI i)), (4, .int (iI l)), (3, .int (iI wz)), (1, .int (iI f)), (0, .ref A.m)]) C dX4_difficultyOf_102 rfl (by rw [hnL]; decide) rfl ?_
          refine z_iload_n (pc := 103) (j := 0) C dX4_difficultyOf_103 rfl rfl ?_
          refine z_aload_n (pc := 104) (j := 8) C dX4_difficultyOf_104 rfl rfl ?_
          refine z_getfield (pc := 105) (v := .ref A.v) C in_X4 rfl 0 (by decide) q2082 (fun _ z => z) gm_1 rfl dX4_difficultyOf_105 ?_
          refine z_iload (pc := 108) (j := 3) C dX4_difficultyOf_108 rfl ?_
          refine z_iconst (pc := 110) C dX4_difficultyOf_110 ?_
          refine z_iadd (pc := 111) C dX4_difficultyOf_111 ?_
          refine z_iaload (pc := 112) (v := .int (iI c_2.2.2.2.2)) C gv_1 (by omega) (mA_e (vE hx5_2 (by omega))) dX4_difficultyOf_112 ?_
          refine z_bipush (pc := 113) C dX4_difficultyOf_113 (by decide) ?_
          refine z_icmp_eq (pc := 115) (tgt := 149) C dX4_difficultyOf_115 (by decide) (by omega) (by decide) (fun c115 => ?_) (fun c115 => ?_)
          · refine z_iconst (pc := 149) C dX4_difficultyOf_149 ?_
            refine z_iadd (pc := 150) C dX4_difficultyOf_150 ?_
            refine z_istore_n (pc := 151) (L' := [(2, .int (iI ((z + (4 + 1)) + 0))), (8, .int (iI 1)), (7, .int (iI (shr c_2.2.2.1 f))), (6, .int (iI (210 + 5 * i))), (5, .int (iI i)), (4, .int (iI l)), (3, .int (iI wz)), (1, .int (iI f)), (0, .ref A.m)]) C dX4_difficultyOf_151 rfl (by rw [hnL]; decide) rfl ?_
            refine z_iload_n (pc := 152) (j := 0) C dX4_difficultyOf_152 rfl rfl ?_
            refine z_iload (pc := 153) (j := 4) C dX4_difficultyOf_153 rfl ?_
            refine z_if_le (pc := 155) (tgt := 178) C dX4_difficultyOf_155 (by decide) (by omega) (fun c155 => ?_) (fun c155 => ?_)
            · refine z_iconst (pc := 178) C dX4_difficultyOf_178 ?_
              refine z_iadd (pc := 179) C dX4_difficultyOf_179 ?_
              refine z_istore_n (pc := 180) (L' := [(2, .int (iI (((z + (4 + 1)) + 0) + 0))), (8, .int (iI 1)), (7, .int (iI (shr c_2.2.2.1 f))), (6, .int (iI (210 + 5 * i))), (5, .int (iI i)), (4, .int (iI l)), (3, .int (iI wz)), (1, .int (iI f)), (0, .ref A.m)]) C dX4_difficultyOf_180 rfl (by rw [hnL]; decide) rfl ?_
              have hdn : ((z + (4 + 1)) + 0) + 0 + trs f (some c_2) (S.cs.drop (i + 1).toNat) + sds f (S.cs.drop (i + 1).toNat) = dif f S.cs := by
                rw [← hd, sds, sdx]
                have hsd : sdf (shr c_2.2.2.1 f) c_2.2.2.2.1 (shb c_2.2.2.1 c_2.2.2.2.2) = (if iez (shr c_2.2.2.1 f) c_2.2.2.2.1 = 1 then 1 else 4) + (if 3 < c_2.2.2.2.1 then 1 else 0) + (if c_2.2.2.2.2 ≠ 100 ∧ pcl c_2.2.2.2.2 ≠ pcl c_2.2.2.1 then 1 else 0) := rfl
                rw [hsd]
                rcases hl_ with ⟨a1, a2, a3, a4⟩ | ⟨y, a1, a2, a3, a4⟩
                · rw [a4, trs]; (repeat' split) <;> omega
                · rw [a2, trs, trd]; split at a4 <;> (repeat' split) <;> omega
              refine z_iload (pc := 181) (j := 1) C dX4_difficultyOf_181 rfl ?_
              refine z_istore_n (pc := 183) (L' := [(3, .int (iI 1)), (2, .int (iI (((z + (4 + 1)) + 0) + 0))), (8, .int (iI 1)), (7, .int (iI (shr c_2.2.2.1 f))), (6, .int (iI (210 + 5 * i))), (5, .int (iI i)), (4, .int (iI l)), (1, .int (iI f)), (0, .ref A.m)]) C dX4_difficultyOf_183 rfl (by rw [hnL]; decide) rfl ?_
              refine z_iload (pc := 184) (j := 3) C dX4_difficultyOf_184 rfl ?_
              refine z_istore (pc := 186) (L' := [(4, .int (iI (shr c_2.2.2.1 f))), (3, .int (iI 1)), (2, .int (iI (((z + (4 + 1)) + 0) + 0))), (8, .int (iI 1)), (7, .int (iI (shr c_2.2.2.1 f))), (6, .int (iI (210 + 5 * i))), (5, .int (iI i)), (1, .int (iI f)), (0, .ref A.m)]) C dX4_difficultyOf_186 (by rw [hnL]; decide) rfl ?_
              refine z_iinc (pc := 188) (k := 6) (L' := [(5, .int (iI (i + 1))), (4, .int (iI (shr c_2.2.2.1 f))), (3, .int (iI 1)), (2, .int (iI (((z + (4 + 1)) + 0) + 0))), (8, .int (iI 1)), (7, .int (iI (shr c_2.2.2.1 f))), (6, .int (iI (210 + 5 * i))), (1, .int (iI f)), (0, .ref A.m)]) C dX4_difficultyOf_188 rfl (by rw [hnL]; decide) rfl ?_
              refine z_goto (pc := 191) (tgt := 10) C dX4_difficultyOf_191 (by decide) ?_
              refine Z.weak (L' := [(5, .int (iI (i + 1))), (4, .int (iI (shr c_2.2.2.1 f))), (3, .int (iI 1)), (2, .int (iI (((z + (4 + 1)) + 0) + 0))), (1, .int (iI f)), (0, .ref A.m)]) (kc' := 0) (ks' := 0) [0, 1, 2, 3, 7, 8] rfl (by omega) (by omega) ?_
              exact ih10 _ (by omega) (i + 1) (((z + (4 + 1)) + 0) + 0) 1 (shr c_2.2.2.1 f) (some c_2) (by omega) hdn (Or.inr ⟨c_2, by omega, rfl, rfl, by split <;> omega⟩) rfl
            · refine z_iload (pc := 158) (j := 1) C dX4_difficultyOf_158 rfl ?_
              refine z_if_eq (pc := 160) (tgt := 178) C dX4_difficultyOf_160 (by decide) (by decide) (fun z => absurd z (by decide)) (fun _ => ?_)
              refine z_iload_n (pc := 163) (j := 6) C dX4_difficultyOf_163 rfl rfl ?_
              refine z_if_eq (pc := 164) (tgt := 178) C dX4_difficultyOf_164 (by decide) (by omega) (fun c164 => ?_) (fun c164 => ?_)
              · refine z_iconst (pc := 178) C dX4_difficultyOf_178 ?_
                refine z_iadd (pc := 179) C dX4_difficultyOf_179 ?_
                refine z_istore_n (pc := 180) (L' := [(2, .int (iI (((z + (4 + 1)) + 0) + 0))), (8, .int (iI 1)), (7, .int (iI (shr c_2.2.2.1 f))), (6, .int (iI (210 + 5 * i))), (5, .int (iI i)), (4, .int (iI l)), (3, .int (iI wz)), (1, .int (iI f)), (0, .ref A.m)]) C dX4_difficultyOf_180 rfl (by rw [hnL]; decide) rfl ?_
                have hdn : ((z + (4 + 1)) + 0) + 0 + trs f (some c_2) (S.cs.drop (i + 1).toNat) + sds f (S.cs.drop (i + 1).toNat) = dif f S.cs := by
                  rw [← hd, sds, sdx]
                  have hsd : sdf (shr c_2.2.2.1 f) c_2.2.2.2.1 (shb c_2.2.2.1 c_2.2.2.2.2) = (if iez (shr c_2.2.2.1 f) c_2.2.2.2.1 = 1 then 1 else 4) + (if 3 < c_2.2.2.2.1 then 1 else 0) + (if c_2.2.2.2.2 ≠ 100 ∧ pcl c_2.2.2.2.2 ≠ pcl c_2.2.2.1 then 1 else 0) := rfl
                  rw [hsd]
                  rcases hl_ with ⟨a1, a2, a3, a4⟩ | ⟨y, a1, a2, a3, a4⟩
                  · rw [a4, trs]; (repeat' split) <;> omega
                  · rw [a2, trs, trd]; split at a4 <;> (repeat' split) <;> omega
                refine z_iload (pc := 181) (j := 1) C dX4_difficultyOf_181 rfl ?_
                refine z_istore_n (pc := 183) (L' := [(3, .int (iI 1)), (2, .int (iI (((z + (4 + 1)) + 0) + 0))), (8, .int (iI 1)), (7, .int (iI (shr c_2.2.2.1 f))), (6, .int (iI (210 + 5 * i))), (5, .int (iI i)), (4, .int (iI l)), (1, .int (iI f)), (0, .ref A.m)]) C dX4_difficultyOf_183 rfl (by rw [hnL]; decide) rfl ?_
                refine z_iload (pc := 184) (j := 3) C dX4_difficultyOf_184 rfl ?_
                refine z_istore (pc := 186) (L' := [(4, .int (iI (shr c_2.2.2.1 f))), (3, .int (iI 1)), (2, .int (iI (((z + (4 + 1)) + 0) + 0))), (8, .int (iI 1)), (7, .int (iI (shr c_2.2.2.1 f))), (6, .int (iI (210 + 5 * i))), (5, .int (iI i)), (1, .int (iI f)), (0, .ref A.m)]) C dX4_difficultyOf_186 (by rw [hnL]; decide) rfl ?_
                refine z_iinc (pc := 188) (k := 6) (L' := [(5, .int (iI (i + 1))), (4, .int (iI (shr c_2.2.2.1 f))), (3, .int (iI 1)), (2, .int (iI (((z + (4 + 1)) + 0) + 0))), (8, .int (iI 1)), (7, .int (iI (shr c_2.2.2.1 f))), (6, .int (iI (210 + 5 * i))), (1, .int (iI f)), (0, .ref A.m)]) C dX4_difficultyOf_188 rfl (by rw [hnL]; decide) rfl ?_
                refine z_goto (pc := 191) (tgt := 10) C dX4_difficultyOf_191 (by decide) ?_
                refine Z.weak (L' := [(5, .int (iI (i + 1))), (4, .int (iI (shr c_2.2.2.1 f))), (3, .int (iI 1)), (2, .int (iI (((z + (4 + 1)) + 0) + 0))), (1, .int (iI f)), (0, .ref A.m)]) (kc' := 0) (ks' := 0) [0, 1, 2, 3, 7, 8] rfl (by omega) (by omega) ?_
                exact ih10 _ (by omega) (i + 1) (((z + (4 + 1)) + 0) + 0) 1 (shr c_2.2.2.1 f) (some c_2) (by omega) hdn (Or.inr ⟨c_2, by omega, rfl, rfl, by split <;> omega⟩) rfl
              · refine z_iload (pc := 167) (j := 2) C dX4_difficultyOf_167 rfl ?_
                refine z_iload (pc := 169) (j := 5) C dX4_difficultyOf_169 rfl ?_
                refine z_icmp_eq (pc := 171) (tgt := 178) C dX4_difficultyOf_171 (by decide) (by omega) (by omega) (fun c171 => ?_) (fun c171 => ?_)
                · refine z_iconst (pc := 178) C dX4_difficultyOf_178 ?_
                  refine z_iadd (pc := 179) C dX4_difficultyOf_179 ?_
                  refine z_istore_n (pc := 180) (L' := [(2, .int (iI (((z + (4 + 1)) + 0) + 0))), (8, .int (iI 1)), (7, .int (iI (shr c_2.2.2.1 f))), (6, .int (iI (210 + 5 * i))), (5, .int (iI i)), (4, .int (iI l)), (3, .int (iI wz)), (1, .int (iI f)), (0, .ref A.m)]) C dX4_difficultyOf_180 rfl (by rw [hnL]; decide) rfl ?_
                  have hdn : ((z + (4 + 1)) + 0) + 0 + trs f (some c_2) (S.cs.drop (i + 1).toNat) + sds f (S.cs.drop (i + 1).toNat) = dif f S.cs := by
                    rw [← hd, sds, sdx]
                    have hsd : sdf (shr c_2.2.2.1 f) c_2.2.2.2.1 (shb c_2.2.2.1 c_2.2.2.2.2) = (if iez (shr c_2.2.2.1 f) c_2.2.2.2.1 = 1 then 1 else 4) + (if 3 < c_2.2.2.2.1 then 1 else 0) + (if c_2.2.2.2.2 ≠ 100 ∧ pcl c_2.2.2.2.2 ≠ pcl c_2.2.2.1 then 1 else 0) := rfl
                    rw [hsd]
                    rcases hl_ with ⟨a1, a2, a3, a4⟩ | ⟨y, a1, a2, a3, a4⟩
                    · rw [a4, trs]; (repeat' split) <;> omega
                    · rw [a2, trs, trd]; split at a4 <;> (repeat' split) <;> omega
                  refine z_iload (pc := 181) (j := 1) C dX4_difficultyOf_181 rfl ?_
                  refine z_istore_n (pc := 183) (L' := [(3, .int (iI 1)), (2, .int (iI (((z + (4 + 1)) + 0) + 0))), (8, .int (iI 1)), (7, .int (iI (shr c_2.2.2.1 f))), (6, .int (iI (210 + 5 * i))), (5, .int (iI i)), (4, .int (iI l)), (1, .int (iI f)), (0, .ref A.m)]) C dX4_difficultyOf_183 rfl (by rw [hnL]; decide) rfl ?_
                  refine z_iload (pc := 184) (j := 3) C dX4_difficultyOf_184 rfl ?_
                  refine z_istore (pc := 186) (L' := [(4, .int (iI (shr c_2.2.2.1 f))), (3, .int (iI 1)), (2, .int (iI (((z + (4 + 1)) + 0) + 0))), (8, .int (iI 1)), (7, .int (iI (shr c_2.2.2.1 f))), (6, .int (iI (210 + 5 * i))), (5, .int (iI i)), (1, .int (iI f)), (0, .ref A.m)]) C dX4_difficultyOf_186 (by rw [hnL]; decide) rfl ?_
                  refine z_iinc (pc := 188) (k := 6) (L' := [(5, .int (iI (i + 1))), (4, .int (iI (shr c_2.2.2.1 f))), (3, .int (iI 1)), (2, .int (iI (((z + (4 + 1)) + 0) + 0))), (8, .int (iI 1)), (7, .int (iI (shr c_2.2.2.1 f))), (6, .int (iI (210 + 5 * i))), (1, .int (iI f)), (0, .ref A.m)]) C dX4_difficultyOf_188 rfl (by rw [hnL]; decide) rfl ?_
                  refine z_goto (pc := 191) (tgt := 10) C dX4_difficultyOf_191 (by decide) ?_
                  refine Z.weak (L' := [(5, .int (iI (i + 1))), (4, .int (iI (shr c_2.2.2.1 f))), (3, .int (iI 1)), (2, .int (iI (((z + (4 + 1)) + 0) + 0))), (1, .int (iI f)), (0, .ref A.m)]) (kc' := 0) (ks' := 0) [0, 1, 2, 3, 7, 8] rfl (by omega) (by omega) ?_
                  exact ih10 _ (by omega) (i + 1) (((z + (4 + 1)) + 0) + 0) 1 (shr c_2.2.2.1 f) (some c_2) (by omega) hdn (Or.inr ⟨c_2, by omega, rfl, rfl, by split <;> omega⟩) rfl
                · refine z_iconst (pc := 174) C dX4_difficultyOf_174 ?_
                  refine z_goto (pc := 175) (tgt := 179) C dX4_difficultyOf_175 (by decide) ?_
                  refine z_iadd (pc := 179) C dX4_difficultyOf_179 ?_
                  refine z_istore_n (pc := 180) (L' := [(2, .int (iI (((z + (4 + 1)) + 0) + 1))), (8, .int (iI 1)), (7, .int (iI (shr c_2.2.2.1 f))), (6, .int (iI (210 + 5 * i))), (5, .int (iI i)), (4, .int (iI l)), (3, .int (iI wz)), (1, .int (iI f)), (0, .ref A.m)]) C dX4_difficultyOf_180 rfl (by rw [hnL]; decide) rfl ?_
                  have hdn : ((z + (4 + 1)) + 0) + 1 + trs f (some c_2) (S.cs.drop (i + 1).toNat) + sds f (S.cs.drop (i + 1).toNat) = dif f S.cs := by
                    rw [← hd, sds, sdx]
                    have hsd : sdf (shr c_2.2.2.1 f) c_2.2.2.2.1 (shb c_2.2.2.1 c_2.2.2.2.2) = (if iez (shr c_2.2.2.1 f) c_2.2.2.2.1 = 1 then 1 else 4) + (if 3 < c_2.2.2.2.1 then 1 else 0) + (if c_2.2.2.2.2 ≠ 100 ∧ pcl c_2.2.2.2.2 ≠ pcl c_2.2.2.1 then 1 else 0) := rfl
                    rw [hsd]
                    rcases hl_ with ⟨a1, a2, a3, a4⟩ | ⟨y, a1, a2, a3, a4⟩
                    · rw [a4, trs]; (repeat' split) <;> omega
                    · rw [a2, trs, trd]; split at a4 <;> (repeat' split) <;> omega
                  refine z_iload (pc := 181) (j := 1) C dX4_difficultyOf_181 rfl ?_
                  refine z_istore_n (pc := 183) (L' := [(3, .int (iI 1)), (2, .int (iI (((z + (4 + 1)) + 0) + 1))), (8, .int (iI 1)), (7, .int (iI (shr c_2.2.2.1 f))), (6, .int (iI (210 + 5 * i))), (5, .int (iI i)), (4, .int (iI l)), (1, .int (iI f)), (0, .ref A.m)]) C dX4_difficultyOf_183 rfl (by rw [hnL]; decide) rfl ?_
                  refine z_iload (pc := 184) (j := 3) C dX4_difficultyOf_184 rfl ?_
                  refine z_istore (pc := 186) (L' := [(4, .int (iI (shr c_2.2.2.1 f))), (3, .int (iI 1)), (2, .int (iI (((z + (4 + 1)) + 0) + 1))), (8, .int (iI 1)), (7, .int (iI (shr c_2.2.2.1 f))), (6, .int (iI (210 + 5 * i))), (5, .int (iI i)), (1, .int (iI f)), (0, .ref A.m)]) C dX4_difficultyOf_186 (by rw [hnL]; decide) rfl ?_
                  refine z_iinc (pc := 188) (k := 6) (L' := [(5, .int (iI (i + 1))), (4, .int (iI (shr c_2.2.2.1 f))), (3, .int (iI 1)), (2, .int (iI (((z + (4 + 1)) + 0) + 1))), (8, .int (iI 1)), (7, .int (iI (shr c_2.2.2.1 f))), (6, .int (iI (210 + 5 * i))), (1, .int (iI f)), (0, .ref A.m)]) C dX4_difficultyOf_188 rfl (by rw [hnL]; decide) rfl ?_
                  refine z_goto (pc := 191) (tgt := 10) C dX4_difficultyOf_191 (by decide) ?_
                  refine Z.weak (L' := [(5, .int (iI (i + 1))), (4, .int (iI (shr c_2.2.2.1 f))), (3, .int (iI 1)), (2, .int (iI (((z + (4 + 1)) + 0) + 1))), (1, .int (iI f)), (0, .ref A.m)]) (kc' := 0) (ks' := 0) [0, 1, 2, 3, 7, 8] rfl (by omega) (by omega) ?_
                  exact ih10 _ (by omega) (i + 1) (((z + (4 + 1)) + 0) + 1) 1 (shr c_2.2.2.1 f) (some c_2) (by omega) hdn (Or.inr ⟨c_2, by omega, rfl, rfl, by split <;> omega⟩) rfl
          · refine z_aload_n (pc := 118) (j := 8) C dX4_difficultyOf_118 rfl rfl ?_
            refine z_getfield (pc := 119) (v := .ref A.v) C in_X4 rfl 0 (by decide) q2082 (fun _ z => z) gm_1 rfl dX4_difficultyOf_119 ?_
            refine z_iload (pc := 122) (j := 3) C dX4_difficultyOf_122 rfl ?_
            refine z_iconst (pc := 124) C dX4_difficultyOf_124 ?_
            refine z_iadd (pc := 125) C dX4_difficultyOf_125 ?_
            refine z_iaload (pc := 126) (v := .int (iI c_2.2.2.2.2)) C gv_1 (by omega) (mA_e (vE hx5_2 (by omega))) dX4_difficultyOf_126 ?_
            refine z_callS (pc := 127) (n := 1) (kc' := 0) (ks' := 0) C (m_pitch C.t (x := c_2.2.2.2.2) (by omega)) (lw_S q2218 q2219 q74 q2220) (by decide +kernel) ⟨by decide, by decide⟩ rfl rfl (Nat.le_of_ble_eq_true rfl) dX4_difficultyOf_127 (by omega) (by omega) (zpk (st' := [.int (iI (pcl c_2.2.2.2.2)), .int (iI (z + (4 + 1)))]) rfl ?_) zrx
            have hpcl130 := pcl_r c_2.2.2.2.2
            refine z_aload_n (pc := 130) (j := 8) C dX4_difficultyOf_130 rfl rfl ?_
            refine z_getfield (pc := 131) (v := .ref A.v) C in_X4 rfl 0 (by decide) q2082 (fun _ z => z) gm_1 rfl dX4_difficultyOf_131 ?_
            refine z_iload (pc := 134) (j := 3) C dX4_difficultyOf_134 rfl ?_
            refine z_iconst (pc := 136) C dX4_difficultyOf_136 ?_
            refine z_iadd (pc := 137) C dX4_difficultyOf_137 ?_
            refine z_iaload (pc := 138) (v := .int (iI c_2.2.2.1)) C gv_1 (by omega) (mA_e (vE hx3_2 (by omega))) dX4_difficultyOf_138 ?_
            refine z_callS (pc := 139) (n := 1) (kc' := 0) (ks' := 0) C (m_pitch C.t (x := c_2.2.2.1) (by omega)) (lw_S q2218 q2219 q74 q2220) (by decide +kernel) ⟨by decide, by decide⟩ rfl rfl (Nat.le_of_ble_eq_true rfl) dX4_difficultyOf_139 (by omega) (by omega) (zpk (st' := [.int (iI (pcl c_2.2.2.1)), .int (iI (pcl c_2.2.2.2.2)), .int (iI (z + (4 + 1)))]) rfl ?_) zrx
            have hpcl142 := pcl_r c_2.2.2.1
            refine z_icmp_eq (pc := 142) (tgt := 149) C dX4_difficultyOf_142 (by decide) (by omega) (by omega) (fun c142 => ?_) (fun c142 => ?_)
            · refine z_iconst (pc := 149) C dX4_difficultyOf_149 ?_
              refine z_iadd (pc := 150) C dX4_difficultyOf_150 ?_
              refine z_istore_n (pc := 151) (L' := [(2, .int (iI ((z + (4 + 1)) + 0))), (8, .int (iI 1)), (7, .int (iI (shr c_2.2.2.1 f))), (6, .int (iI (210 + 5 * i))), (5, .int (iI i)), (4, .int (iI l)), (3, .int (iI wz)), (1, .int (iI f)), (0, .ref A.m)]) C dX4_difficultyOf_151 rfl (by rw [hnL]; decide) rfl ?_
              refine z_iload_n (pc := 152) (j := 0) C dX4_difficultyOf_152 rfl rfl ?_
              refine z_iload (pc := 153) (j := 4) C dX4_difficultyOf_153 rfl ?_
              refine z_if_le (pc := 155) (tgt := 178) C dX4_difficultyOf_155 (by decide) (by omega) (fun c155 => ?_) (fun c155 => ?_)
              · refine z_iconst (pc := 178) C dX4_difficultyOf_178 ?_
                refine z_iadd (pc := 179) C dX4_difficultyOf_179 ?_
                refine z_istore_n (pc := 180) (L' := [(2, .int (iI (((z + (4 + 1)) + 0) + 0))), (8, .int (iI 1)), (7, .int (iI (shr c_2.2.2.1 f))), (6, .int (iI (210 + 5 * i))), (5, .int (iI i)), (4, .int (iI l)), (3, .int (iI wz)), (1, .int (iI f)), (0, .ref A.m)]) C dX4_difficultyOf_180 rfl (by rw [hnL]; decide) rfl ?_
                have hdn : ((z + (4 + 1)) + 0) + 0 + trs f (some c_2) (S.cs.drop (i + 1).toNat) + sds f (S.cs.drop (i + 1).toNat) = dif f S.cs := by
                  rw [← hd, sds, sdx]
                  have hsd : sdf (shr c_2.2.2.1 f) c_2.2.2.2.1 (shb c_2.2.2.1 c_2.2.2.2.2) = (if iez (shr c_2.2.2.1 f) c_2.2.2.2.1 = 1 then 1 else 4) + (if 3 < c_2.2.2.2.1 then 1 else 0) + (if c_2.2.2.2.2 ≠ 100 ∧ pcl c_2.2.2.2.2 ≠ pcl c_2.2.2.1 then 1 else 0) := rfl
                  rw [hsd]
                  rcases hl_ with ⟨a1, a2, a3, a4⟩ | ⟨y, a1, a2, a3, a4⟩
                  · rw [a4, trs]; (repeat' split) <;> omega
                  · rw [a2, trs, trd]; split at a4 <;> (repeat' split) <;> omega
                refine z_iload (pc := 181) (j := 1) C dX4_difficultyOf_181 rfl ?_
                refine z_istore_n (pc := 183) (L' := [(3, .int (iI 1)), (2, .int (iI (((z + (4 + 1)) + 0) + 0))), (8, .int (iI 1)), (7, .int (iI (shr c_2.2.2.1 f))), (6, .int (iI (210 + 5 * i))), (5, .int (iI i)), (4, .int (iI l)), (1, .int (iI f)), (0, .ref A.m)]) C dX4_difficultyOf_183 rfl (by rw [hnL]; decide) rfl ?_
                refine z_iload (pc := 184) (j := 3) C dX4_difficultyOf_184 rfl ?_
                refine z_istore (pc := 186) (L' := [(4, .int (iI (shr c_2.2.2.1 f))), (3, .int (iI 1)), (2, .int (iI (((z + (4 + 1)) + 0) + 0))), (8, .int (iI 1)), (7, .int (iI (shr c_2.2.2.1 f))), (6, .int (iI (210 + 5 * i))), (5, .int (iI i)), (1, .int (iI f)), (0, .ref A.m)]) C dX4_difficultyOf_186 (by rw [hnL]; decide) rfl ?_
                refine z_iinc (pc := 188) (k := 6) (L' := [(5, .int (iI (i + 1))), (4, .int (iI (shr c_2.2.2.1 f))), (3, .int (iI 1)), (2, .int (iI (((z + (4 + 1)) + 0) + 0))), (8, .int (iI 1)), (7, .int (iI (shr c_2.2.2.1 f))), (6, .int (iI (210 + 5 * i))), (1, .int (iI f)), (0, .ref A.m)]) C dX4_difficultyOf_188 rfl (by rw [hnL]; decide) rfl ?_
                refine z_goto (pc := 191) (tgt := 10) C dX4_difficultyOf_191 (by decide) ?_
                refine Z.weak (L' := [(5, .int (iI (i + 1))), (4, .int (iI (shr c_2.2.2.1 f))), (3, .int (iI 1)), (2, .int (iI (((z + (4 + 1)) + 0) + 0))), (1, .int (iI f)), (0, .ref A.m)]) (kc' := 0) (ks' := 0) [0, 1, 2, 3, 7, 8] rfl (by omega) (by omega) ?_
                exact ih10 _ (by omega) (i + 1) (((z + (4 + 1)) + 0) + 0) 1 (shr c_2.2.2.1 f) (some c_2) (by omega) hdn (Or.inr ⟨c_2, by omega, rfl, rfl, by split <;> omega⟩) rfl
              · refine z_iload (pc := 158) (j := 1) C dX4_difficultyOf_158 rfl ?_
                refine z_if_eq (pc := 160) (tgt := 178) C dX4_difficultyOf_160 (by decide) (by decide) (fun z => absurd z (by decide)) (fun _ => ?_)
                refine z_iload_n (pc := 163) (j := 6) C dX4_difficultyOf_163 rfl rfl ?_
                refine z_if_eq (pc := 164) (tgt := 178) C dX4_difficultyOf_164 (by decide) (by omega) (fun c164 => ?_) (fun c164 => ?_)
                · refine z_iconst (pc := 178) C dX4_difficultyOf_178 ?_
                  refine z_iadd (pc := 179) C dX4_difficultyOf_179 ?_
                  refine z_istore_n (pc := 180) (L' := [(2, .int (iI (((z + (4 + 1)) + 0) + 0))), (8, .int (iI 1)), (7, .int (iI (shr c_2.2.2.1 f))), (6, .int (iI (210 + 5 * i))), (5, .int (iI i)), (4, .int (iI l)), (3, .int (iI wz)), (1, .int (iI f)), (0, .ref A.m)]) C dX4_difficultyOf_180 rfl (by rw [hnL]; decide) rfl ?_
                  have hdn : ((z + (4 + 1)) + 0) + 0 + trs f (some c_2) (S.cs.drop (i + 1).toNat) + sds f (S.cs.drop (i + 1).toNat) = dif f S.cs := by
                    rw [← hd, sds, sdx]
                    have hsd : sdf (shr c_2.2.2.1 f) c_2.2.2.2.1 (shb c_2.2.2.1 c_2.2.2.2.2) = (if iez (shr c_2.2.2.1 f) c_2.2.2.2.1 = 1 then 1 else 4) + (if 3 < c_2.2.2.2.1 then 1 else 0) + (if c_2.2.2.2.2 ≠ 100 ∧ pcl c_2.2.2.2.2 ≠ pcl c_2.2.2.1 then 1 else 0) := rfl
                    rw [hsd]
                    rcases hl_ with ⟨a1, a2, a3, a4⟩ | ⟨y, a1, a2, a3, a4⟩
                    · rw [a4, trs]; (repeat' split) <;> omega
                    · rw [a2, trs, trd]; split at a4 <;> (repeat' split) <;> omega
                  refine z_iload (pc := 181) (j := 1) C dX4_difficultyOf_181 rfl ?_
                  refine z_istore_n (pc := 183) (L' := [(3, .int (iI 1)), (2, .int (iI (((z + (4 + 1)) + 0) + 0))), (8, .int (iI 1)), (7, .int (iI (shr c_2.2.2.1 f))), (6, .int (iI (210 + 5 * i))), (5, .int (iI i)), (4, .int (iI l)), (1, .int (iI f)), (0, .ref A.m)]) C dX4_difficultyOf_183 rfl (by rw [hnL]; decide) rfl ?_
                  refine z_iload (pc := 184) (j := 3) C dX4_difficultyOf_184 rfl ?_
                  refine z_istore (pc := 186) (L' := [(4, .int (iI (shr c_2.2.2.1 f))), (3, .int (iI 1)), (2, .int (iI (((z + (4 + 1)) + 0) + 0))), (8, .int (iI 1)), (7, .int (iI (shr c_2.2.2.1 f))), (6, .int (iI (210 + 5 * i))), (5, .int (iI i)), (1, .int (iI f)), (0, .ref A.m)]) C dX4_difficultyOf_186 (by rw [hnL]; decide) rfl ?_
                  refine z_iinc (pc := 188) (k := 6) (L' := [(5, .int (iI (i + 1))), (4, .int (iI (shr c_2.2.2.1 f))), (3, .int (iI 1)), (2, .int (iI (((z + (4 + 1)) + 0) + 0))), (8, .int (iI 1)), (7, .int (iI (shr c_2.2.2.1 f))), (6, .int (iI (210 + 5 * i))), (1, .int (iI f)), (0, .ref A.m)]) C dX4_difficultyOf_188 rfl (by rw [hnL]; decide) rfl ?_
                  refine z_goto (pc := 191) (tgt := 10) C dX4_difficultyOf_191 (by decide) ?_
                  refine Z.weak (L' := [(5, .int (iI (i + 1))), (4, .int (iI (shr c_2.2.2.1 f))), (3, .int (iI 1)), (2, .int (iI (((z + (4 + 1)) + 0) + 0))), (1, .int (iI f)), (0, .ref A.m)]) (kc' := 0) (ks' := 0) [0, 1, 2, 3, 7, 8] rfl (by omega) (by omega) ?_
                  exact ih10 _ (by omega) (i + 1) (((z + (4 + 1)) + 0) + 0) 1 (shr c_2.2.2.1 f) (some c_2) (by omega) hdn (Or.inr ⟨c_2, by omega, rfl, rfl, by split <;> omega⟩) rfl
                · refine z_iload (pc := 167) (j := 2) C dX4_difficultyOf_167 rfl ?_
                  refine z_iload (pc := 169) (j := 5) C dX4_difficultyOf_169 rfl ?_
                  refine z_icmp_eq (pc := 171) (tgt := 178) C dX4_difficultyOf_171 (by decide) (by omega) (by omega) (fun c171 => ?_) (fun c171 => ?_)
                  · refine z_iconst (pc := 178) C dX4_difficultyOf_178 ?_
                    refine z_iadd (pc := 179) C dX4_difficultyOf_179 ?_
                    refine z_istore_n (pc := 180) (L' := [(2, .int (iI (((z + (4 + 1)) + 0) + 0))), (8, .int (iI 1)), (7, .int (iI (shr c_2.2.2.1 f))), (6, .int (iI (210 + 5 * i))), (5, .int (iI i)), (4, .int (iI l)), (3, .int (iI wz)), (1, .int (iI f)), (0, .ref A.m)]) C dX4_difficultyOf_180 rfl (by rw [hnL]; decide) rfl ?_
                    have hdn : ((z + (4 + 1)) + 0) + 0 + trs f (some c_2) (S.cs.drop (i + 1).toNat) + sds f (S.cs.drop (i + 1).toNat) = dif f S.cs := by
                      rw [← hd, sds, sdx]
                      have hsd : sdf (shr c_2.2.2.1 f) c_2.2.2.2.1 (shb c_2.2.2.1 c_2.2.2.2.2) = (if iez (shr c_2.2.2.1 f) c_2.2.2.2.1 = 1 then 1 else 4) + (if 3 < c_2.2.2.2.1 then 1 else 0) + (if c_2.2.2.2.2 ≠ 100 ∧ pcl c_2.2.2.2.2 ≠ pcl c_2.2.2.1 then 1 else 0) := rfl
                      rw [hsd]
                      rcases hl_ with ⟨a1, a2, a3, a4⟩ | ⟨y, a1, a2, a3, a4⟩
                      · rw [a4, trs]; (repeat' split) <;> omega
                      · rw [a2, trs, trd]; split at a4 <;> (repeat' split) <;> omega
                    refine z_iload (pc := 181) (j := 1) C dX4_difficultyOf_181 rfl ?_
                    refine z_istore_n (pc := 183) (L' := [(3, .int (iI 1)), (2, .int (iI (((z + (4 + 1)) + 0) + 0))), (8, .int (iI 1)), (7, .int (iI (shr c_2.2.2.1 f))), (6, .int (iI (210 + 5 * i))), (5, .int (iI i)), (4, .int (iI l)), (1, .int (iI f)), (0, .ref A.m)]) C dX4_difficultyOf_183 rfl (by rw [hnL]; decide) rfl ?_
                    refine z_iload (pc := 184) (j := 3) C dX4_difficultyOf_184 rfl ?_
                    refine z_istore (pc := 186) (L' := [(4, .int (iI (shr c_2.2.2.1 f))), (3, .int (iI 1)), (2, .int (iI (((z + (4 + 1)) + 0) + 0))), (8, .int (iI 1)), (7, .int (iI (shr c_2.2.2.1 f))), (6, .int (iI (210 + 5 * i))), (5, .int (iI i)), (1, .int (iI f)), (0, .ref A.m)]) C dX4_difficultyOf_186 (by rw [hnL]; decide) rfl ?_
                    refine z_iinc (pc := 188) (k := 6) (L' := [(5, .int (iI (i + 1))), (4, .int (iI (shr c_2.2.2.1 f))), (3, .int (iI 1)), (2, .int (iI (((z + (4 + 1)) + 0) + 0))), (8, .int (iI 1)), (7, .int (iI (shr c_2.2.2.1 f))), (6, .int (iI (210 + 5 * i))), (1, .int (iI f)), (0, .ref A.m)]) C dX4_difficultyOf_188 rfl (by rw [hnL]; decide) rfl ?_
                    refine z_goto (pc := 191) (tgt := 10) C dX4_difficultyOf_191 (by decide) ?_
                    refine Z.weak (L' := [(5, .int (iI (i + 1))), (4, .int (iI (shr c_2.2.2.1 f))), (3, .int (iI 1)), (2, .int (iI (((z + (4 + 1)) + 0) + 0))), (1, .int (iI f)), (0, .ref A.m)]) (kc' := 0) (ks' := 0) [0, 1, 2, 3, 7, 8] rfl (by omega) (by omega) ?_
                    exact ih10 _ (by omega) (i + 1) (((z + (4 + 1)) + 0) + 0) 1 (shr c_2.2.2.1 f) (some c_2) (by omega) hdn (Or.inr ⟨c_2, by omega, rfl, rfl, by split <;> omega⟩) rfl
                  · refine z_iconst (pc := 174) C dX4_difficultyOf_174 ?_
                    refine z_goto (pc := 175) (tgt := 179) C dX4_difficultyOf_175 (by decide) ?_
                    refine z_iadd (pc := 179) C dX4_difficultyOf_179 ?_
                    refine z_istore_n (pc := 180) (L' := [(2, .int (iI (((z + (4 + 1)) + 0) + 1))), (8, .int (iI 1)), (7, .int (iI (shr c_2.2.2.1 f))), (6, .int (iI (210 + 5 * i))), (5, .int (iI i)), (4, .int (iI l)), (3, .int (iI wz)), (1, .int (iI f)), (0, .ref A.m)]) C dX4_difficultyOf_180 rfl (by rw [hnL]; decide) rfl ?_
                    have hdn : ((z + (4 + 1)) + 0) + 1 + trs f (some c_2) (S.cs.drop (i + 1).toNat) + sds f (S.cs.drop (i + 1).toNat) = dif f S.cs := by
                      rw [← hd, sds, sdx]
                      have hsd : sdf (shr c_2.2.2.1 f) c_2.2.2.2.1 (shb c_2.2.2.1 c_2.2.2.2.2) = (if iez (shr c_2.2.2.1 f) c_2.2.2.2.1 = 1 then 1 else 4) + (if 3 < c_2.2.2.2.1 then 1 else 0) + (if c_2.2.2.2.2 ≠ 100 ∧ pcl c_2.2.2.2.2 ≠ pcl c_2.2.2.1 then 1 else 0) := rfl
                      rw [hsd]
                      rcases hl_ with ⟨a1, a2, a3, a4⟩ | ⟨y, a1, a2, a3, a4⟩
                      · rw [a4, trs]; (repeat' split) <;> omega
                      · rw [a2, trs, trd]; split at a4 <;> (repeat' split) <;> omega
                    refine z_iload (pc := 181) (j := 1) C dX4_difficultyOf_181 rfl ?_
                    refine z_istore_n (pc := 183) (L' := [(3, .int (iI 1)), (2, .int (iI (((z + (4 + 1)) + 0) + 1))), (8, .int (iI 1)), (7, .int (iI (shr c_2.2.2.1 f))), (6, .int (iI (210 + 5 * i))), (5, .int (iI i)), (4, .int (iI l)), (1, .int (iI f)), (0, .ref A.m)]) C dX4_difficultyOf_183 rfl (by rw [hnL]; decide) rfl ?_
                    refine z_iload (pc := 184) (j := 3) C dX4_difficultyOf_184 rfl ?_
                    refine z_istore (pc := 186) (L' := [(4, .int (iI (shr c_2.2.2.1 f))), (3, .int (iI 1)), (2, .int (iI (((z + (4 + 1)) + 0) + 1))), (8, .int (iI 1)), (7, .int (iI (shr c_2.2.2.1 f))), (6, .int (iI (210 + 5 * i))), (5, .int (iI i)), (1, .int (iI f)), (0, .ref A.m)]) C dX4_difficultyOf_186 (by rw [hnL]; decide) rfl ?_
                    refine z_iinc (pc := 188) (k := 6) (L' := [(5, .int (iI (i + 1))), (4, .int (iI (shr c_2.2.2.1 f))), (3, .int (iI 1)), (2, .int (iI (((z + (4 + 1)) + 0) + 1))), (8, .int (iI 1)), (7, .int (iI (shr c_2.2.2.1 f))), (6, .int (iI (210 + 5 * i))), (1, .int (iI f)), (0, .ref A.m)]) C dX4_difficultyOf_188 rfl (by rw [hnL]; decide) rfl ?_
                    refine z_goto (pc := 191) (tgt := 10) C dX4_difficultyOf_191 (by decide) ?_
                    refine Z.weak (L' := [(5, .int (iI (i + 1))), (4, .int (iI (shr c_2.2.2.1 f))), (3, .int (iI 1)), (2, .int (iI (((z + (4 + 1)) + 0) + 1))), (1, .int (iI f)), (0, .ref A.m)]) (kc' := 0) (ks' := 0) [0, 1, 2, 3, 7, 8] rfl (by omega) (by omega) ?_
                    exact ih10 _ (by omega) (i + 1) (((z + (4 + 1)) + 0) + 1) 1 (shr c_2.2.2.1 f) (some c_2) (by omega) hdn (Or.inr ⟨c_2, by omega, rfl, rfl, by split <;> omega⟩) rfl
            · refine z_iconst (pc := 145) C dX4_difficultyOf_145 ?_
              refine z_goto (pc := 146) (tgt := 150) C dX4_difficultyOf_146 (by decide) ?_
              refine z_iadd (pc := 150) C dX4_difficultyOf_150 ?_
              refine z_istore_n (pc := 151) (L' := [(2, .int (iI ((z + (4 + 1)) + 1))), (8, .int (iI 1)), (7, .int (iI (shr c_2.2.2.1 f))), (6, .int (iI (210 + 5 * i))), (5, .int (iI i)), (4, .int (iI l)), (3, .int (iI wz)), (1, .int (iI f)), (0, .ref A.m)]) C dX4_difficultyOf_151 rfl (by rw [hnL]; decide) rfl ?_
              refine z_iload_n (pc := 152) (j := 0) C dX4_difficultyOf_152 rfl rfl ?_
              refine z_iload (pc := 153) (j := 4) C dX4_difficultyOf_153 rfl ?_
              refine z_if_le (pc := 155) (tgt := 178) C dX4_difficultyOf_155 (by decide) (by omega) (fun c155 => ?_) (fun c155 => ?_)
              · refine z_iconst (pc := 178) C dX4_difficultyOf_178 ?_
                refine z_iadd (pc := 179) C dX4_difficultyOf_179 ?_
                refine z_istore_n (pc := 180) (L' := [(2, .int (iI (((z + (4 + 1)) + 1) + 0))), (8, .int (iI 1)), (7, .int (iI (shr c_2.2.2.1 f))), (6, .int (iI (210 + 5 * i))), (5, .int (iI i)), (4, .int (iI l)), (3, .int (iI wz)), (1, .int (iI f)), (0, .ref A.m)]) C dX4_difficultyOf_180 rfl (by rw [hnL]; decide) rfl ?_
                have hdn : ((z + (4 + 1)) + 1) + 0 + trs f (some c_2) (S.cs.drop (i + 1).toNat) + sds f (S.cs.drop (i + 1).toNat) = dif f S.cs := by
                  rw [← hd, sds, sdx]
                  have hsd : sdf (shr c_2.2.2.1 f) c_2.2.2.2.1 (shb c_2.2.2.1 c_2.2.2.2.2) = (if iez (shr c_2.2.2.1 f) c_2.2.2.2.1 = 1 then 1 else 4) + (if 3 < c_2.2.2.2.1 then 1 else 0) + (if c_2.2.2.2.2 ≠ 100 ∧ pcl c_2.2.2.2.2 ≠ pcl c_2.2.2.1 then 1 else 0) := rfl
                  rw [hsd]
                  rcases hl_ with ⟨a1, a2, a3, a4⟩ | ⟨y, a1, a2, a3, a4⟩
                  · rw [a4, trs]; (repeat' split) <;> omega
                  · rw [a2, trs, trd]; split at a4 <;> (repeat' split) <;> omega
                refine z_iload (pc := 181) (j := 1) C dX4_difficultyOf_181 rfl ?_
                refine z_istore_n (pc := 183) (L' := [(3, .int (iI 1)), (2, .int (iI (((z + (4 + 1)) + 1) + 0))), (8, .int (iI 1)), (7, .int (iI (shr c_2.2.2.1 f))), (6, .int (iI (210 + 5 * i))), (5, .int (iI i)), (4, .int (iI l)), (1, .int (iI f)), (0, .ref A.m)]) C dX4_difficultyOf_183 rfl (by rw [hnL]; decide) rfl ?_
                refine z_iload (pc := 184) (j := 3) C dX4_difficultyOf_184 rfl ?_
                refine z_istore (pc := 186) (L' := [(4, .int (iI (shr c_2.2.2.1 f))), (3, .int (iI 1)), (2, .int (iI (((z + (4 + 1)) + 1) + 0))), (8, .int (iI 1)), (7, .int (iI (shr c_2.2.2.1 f))), (6, .int (iI (210 + 5 * i))), (5, .int (iI i)), (1, .int (iI f)), (0, .ref A.m)]) C dX4_difficultyOf_186 (by rw [hnL]; decide) rfl ?_
                refine z_iinc (pc := 188) (k := 6) (L' := [(5, .int (iI (i + 1))), (4, .int (iI (shr c_2.2.2.1 f))), (3, .int (iI 1)), (2, .int (iI (((z + (4 + 1)) + 1) + 0))), (8, .int (iI 1)), (7, .int (iI (shr c_2.2.2.1 f))), (6, .int (iI (210 + 5 * i))), (1, .int (iI f)), (0, .ref A.m)]) C dX4_difficultyOf_188 rfl (by rw [hnL]; decide) rfl ?_
                refine z_goto (pc := 191) (tgt := 10) C dX4_difficultyOf_191 (by decide) ?_
                refine Z.weak (L' := [(5, .int (iI (i + 1))), (4, .int (iI (shr c_2.2.2.1 f))), (3, .int (iI 1)), (2, .int (iI (((z + (4 + 1)) + 1) + 0))), (1, .int (iI f)), (0, .ref A.m)]) (kc' := 0) (ks' := 0) [0, 1, 2, 3, 7, 8] rfl (by omega) (by omega) ?_
                exact ih10 _ (by omega) (i + 1) (((z + (4 + 1)) + 1) + 0) 1 (shr c_2.2.2.1 f) (some c_2) (by omega) hdn (Or.inr ⟨c_2, by omega, rfl, rfl, by split <;> omega⟩) rfl
              · refine z_iload (pc := 158) (j := 1) C dX4_difficultyOf_158 rfl ?_
                refine z_if_eq (pc := 160) (tgt := 178) C dX4_difficultyOf_160 (by decide) (by decide) (fun z => absurd z (by decide)) (fun _ => ?_)
                refine z_iload_n (pc := 163) (j := 6) C dX4_difficultyOf_163 rfl rfl ?_
                refine z_if_eq (pc := 164) (tgt := 178) C dX4_difficultyOf_164 (by decide) (by omega) (fun c164 => ?_) (fun c164 => ?_)
                · refine z_iconst (pc := 178) C dX4_difficultyOf_178 ?_
                  refine z_iadd (pc := 179) C dX4_difficultyOf_179 ?_
                  refine z_istore_n (pc := 180) (L' := [(2, .int (iI (((z + (4 + 1)) + 1) + 0))), (8, .int (iI 1)), (7, .int (iI (shr c_2.2.2.1 f))), (6, .int (iI (210 + 5 * i))), (5, .int (iI i)), (4, .int (iI l)), (3, .int (iI wz)), (1, .int (iI f)), (0, .ref A.m)]) C dX4_difficultyOf_180 rfl (by rw [hnL]; decide) rfl ?_
                  have hdn : ((z + (4 + 1)) + 1) + 0 + trs f (some c_2) (S.cs.drop (i + 1).toNat) + sds f (S.cs.drop (i + 1).toNat) = dif f S.cs := by
                    rw [← hd, sds, sdx]
                    have hsd : sdf (shr c_2.2.2.1 f) c_2.2.2.2.1 (shb c_2.2.2.1 c_2.2.2.2.2) = (if iez (shr c_2.2.2.1 f) c_2.2.2.2.1 = 1 then 1 else 4) + (if 3 < c_2.2.2.2.1 then 1 else 0) + (if c_2.2.2.2.2 ≠ 100 ∧ pcl c_2.2.2.2.2 ≠ pcl c_2.2.2.1 then 1 else 0) := rfl
                    rw [hsd]
                    rcases hl_ with ⟨a1, a2, a3, a4⟩ | ⟨y, a1, a2, a3, a4⟩
                    · rw [a4, trs]; (repeat' split) <;> omega
                    · rw [a2, trs, trd]; split at a4 <;> (repeat' split) <;> omega
                  refine z_iload (pc := 181) (j := 1) C dX4_difficultyOf_181 rfl ?_
                  refine z_istore_n (pc := 183) (L' := [(3, .int (iI 1)), (2, .int (iI (((z + (4 + 1)) + 1) + 0))), (8, .int (iI 1)), (7, .int (iI (shr c_2.2.2.1 f))), (6, .int (iI (210 + 5 * i))), (5, .int (iI i)), (4, .int (iI l)), (1, .int (iI f)), (0, .ref A.m)]) C dX4_difficultyOf_183 rfl (by rw [hnL]; decide) rfl ?_
                  refine z_iload (pc := 184) (j := 3) C dX4_difficultyOf_184 rfl ?_
                  refine z_istore (pc := 186) (L' := [(4, .int (iI (shr c_2.2.2.1 f))), (3, .int (iI 1)), (2, .int (iI (((z + (4 + 1)) + 1) + 0))), (8, .int (iI 1)), (7, .int (iI (shr c_2.2.2.1 f))), (6, .int (iI (210 + 5 * i))), (5, .int (iI i)), (1, .int (iI f)), (0, .ref A.m)]) C dX4_difficultyOf_186 (by rw [hnL]; decide) rfl ?_
                  refine z_iinc (pc := 188) (k := 6) (L' := [(5, .int (iI (i + 1))), (4, .int (iI (shr c_2.2.2.1 f))), (3, .int (iI 1)), (2, .int (iI (((z + (4 + 1)) + 1) + 0))), (8, .int (iI 1)), (7, .int (iI (shr c_2.2.2.1 f))), (6, .int (iI (210 + 5 * i))), (1, .int (iI f)), (0, .ref A.m)]) C dX4_difficultyOf_188 rfl (by rw [hnL]; decide) rfl ?_
                  refine z_goto (pc := 191) (tgt := 10) C dX4_difficultyOf_191 (by decide) ?_
                  refine Z.weak (L' := [(5, .int (iI (i + 1))), (4, .int (iI (shr c_2.2.2.1 f))), (3, .int (iI 1)), (2, .int (iI (((z + (4 + 1)) + 1) + 0))), (1, .int (iI f)), (0, .ref A.m)]) (kc' := 0) (ks' := 0) [0, 1, 2, 3, 7, 8] rfl (by omega) (by omega) ?_
                  exact ih10 _ (by omega) (i + 1) (((z + (4 + 1)) + 1) + 0) 1 (shr c_2.2.2.1 f) (some c_2) (by omega) hdn (Or.inr ⟨c_2, by omega, rfl, rfl, by split <;> omega⟩) rfl
                · refine z_iload (pc := 167) (j := 2) C dX4_difficultyOf_167 rfl ?_
                  refine z_iload (pc := 169) (j := 5) C dX4_difficultyOf_169 rfl ?_
                  refine z_icmp_eq (pc := 171) (tgt := 178) C dX4_difficultyOf_171 (by decide) (by omega) (by omega) (fun c171 => ?_) (fun c171 => ?_)
                  · refine z_iconst (pc := 178) C dX4_difficultyOf_178 ?_
                    refine z_iadd (pc := 179) C dX4_difficultyOf_179 ?_
                    refine z_istore_n (pc := 180) (L' := [(2, .int (iI (((z + (4 + 1)) + 1) + 0))), (8, .int (iI 1)), (7, .int (iI (shr c_2.2.2.1 f))), (6, .int (iI (210 + 5 * i))), (5, .int (iI i)), (4, .int (iI l)), (3, .int (iI wz)), (1, .int (iI f)), (0, .ref A.m)]) C dX4_difficultyOf_180 rfl (by rw [hnL]; decide) rfl ?_
                    have hdn : ((z + (4 + 1)) + 1) + 0 + trs f (some c_2) (S.cs.drop (i + 1).toNat) + sds f (S.cs.drop (i + 1).toNat) = dif f S.cs := by
                      rw [← hd, sds, sdx]
                      have hsd : sdf (shr c_2.2.2.1 f) c_2.2.2.2.1 (shb c_2.2.2.1 c_2.2.2.2.2) = (if iez (shr c_2.2.2.1 f) c_2.2.2.2.1 = 1 then 1 else 4) + (if 3 < c_2.2.2.2.1 then 1 else 0) + (if c_2.2.2.2.2 ≠ 100 ∧ pcl c_2.2.2.2.2 ≠ pcl c_2.2.2.1 then 1 else 0) := rfl
                      rw [hsd]
                      rcases hl_ with ⟨a1, a2, a3, a4⟩ | ⟨y, a1, a2, a3, a4⟩
                      · rw [a4, trs]; (repeat' split) <;> omega
                      · rw [a2, trs, trd]; split at a4 <;> (repeat' split) <;> omega
                    refine z_iload (pc := 181) (j := 1) C dX4_difficultyOf_181 rfl ?_
                    refine z_istore_n (pc := 183) (L' := [(3, .int (iI 1)), (2, .int (iI (((z + (4 + 1)) + 1) + 0))), (8, .int (iI 1)), (7, .int (iI (shr c_2.2.2.1 f))), (6, .int (iI (210 + 5 * i))), (5, .int (iI i)), (4, .int (iI l)), (1, .int (iI f)), (0, .ref A.m)]) C dX4_difficultyOf_183 rfl (by rw [hnL]; decide) rfl ?_
                    refine z_iload (pc := 184) (j := 3) C dX4_difficultyOf_184 rfl ?_
                    refine z_istore (pc := 186) (L' := [(4, .int (iI (shr c_2.2.2.1 f))), (3, .int (iI 1)), (2, .int (iI (((z + (4 + 1)) + 1) + 0))), (8, .int (iI 1)), (7, .int (iI (shr c_2.2.2.1 f))), (6, .int (iI (210 + 5 * i))), (5, .int (iI i)), (1, .int (iI f)), (0, .ref A.m)]) C dX4_difficultyOf_186 (by rw [hnL]; decide) rfl ?_
                    refine z_iinc (pc := 188) (k := 6) (L' := [(5, .int (iI (i + 1))), (4, .int (iI (shr c_2.2.2.1 f))), (3, .int (iI 1)), (2, .int (iI (((z + (4 + 1)) + 1) + 0))), (8, .int (iI 1)), (7, .int (iI (shr c_2.2.2.1 f))), (6, .int (iI (210 + 5 * i))), (1, .int (iI f)), (0, .ref A.m)]) C dX4_difficultyOf_188 rfl (by rw [hnL]; decide) rfl ?_
                    refine z_goto (pc := 191) (tgt := 10) C dX4_difficultyOf_191 (by decide) ?_
                    refine Z.weak (L' := [(5, .int (iI (i + 1))), (4, .int (iI (shr c_2.2.2.1 f))), (3, .int (iI 1)), (2, .int (iI (((z + (4 + 1)) + 1) + 0))), (1, .int (iI f)), (0, .ref A.m)]) (kc' := 0) (ks' := 0) [0, 1, 2, 3, 7, 8] rfl (by omega) (by omega) ?_
                    exact ih10 _ (by omega) (i + 1) (((z + (4 + 1)) + 1) + 0) 1 (shr c_2.2.2.1 f) (some c_2) (by omega) hdn (Or.inr ⟨c_2, by omega, rfl, rfl, by split <;> omega⟩) rfl
                  · refine z_iconst (pc := 174) C dX4_difficultyOf_174 ?_
                    refine z_goto (pc := 175) (tgt := 179) C dX4_difficultyOf_175 (by decide) ?_
                    refine z_iadd (pc := 179) C dX4_difficultyOf_179 ?_
                    refine z_istore_n (pc := 180) (L' := [(2, .int (iI (((z + (4 + 1)) + 1) + 1))), (8, .int (iI 1)), (7, .int (iI (shr c_2.2.2.1 f))), (6, .int (iI (210 + 5 * i))), (5, .int (iI i)), (4, .int (iI l)), (3, .int (iI wz)), (1, .int (iI f)), (0, .ref A.m)]) C dX4_difficultyOf_180 rfl (by rw [hnL]; decide) rfl ?_
                    have hdn : ((z + (4 + 1)) + 1) + 1 + trs f (some c_2) (S.cs.drop (i + 1).toNat) + sds f (S.cs.drop (i + 1).toNat) = dif f S.cs := by
                      rw [← hd, sds, sdx]
                      have hsd : sdf (shr c_2.2.2.1 f) c_2.2.2.2.1 (shb c_2.2.2.1 c_2.2.2.2.2) = (if iez (shr c_2.2.2.1 f) c_2.2.2.2.1 = 1 then 1 else 4) + (if 3 < c_2.2.2.2.1 then 1 else 0) + (if c_2.2.2.2.2 ≠ 100 ∧ pcl c_2.2.2.2.2 ≠ pcl c_2.2.2.1 then 1 else 0) := rfl
                      rw [hsd]
                      rcases hl_ with ⟨a1, a2, a3, a4⟩ | ⟨y, a1, a2, a3, a4⟩
                      · rw [a4, trs]; (repeat' split) <;> omega
                      · rw [a2, trs, trd]; split at a4 <;> (repeat' split) <;> omega
                    refine z_iload (pc := 181) (j := 1) C dX4_difficultyOf_181 rfl ?_
                    refine z_istore_n (pc := 183) (L' := [(3, .int (iI 1)), (2, .int (iI (((z + (4 + 1)) + 1) + 1))), (8, .int (iI 1)), (7, .int (iI (shr c_2.2.2.1 f))), (6, .int (iI (210 + 5 * i))), (5, .int (iI i)), (4, .int (iI l)), (1, .int (iI f)), (0, .ref A.m)]) C dX4_difficultyOf_183 rfl (by rw [hnL]; decide) rfl ?_
                    refine z_iload (pc := 184) (j := 3) C dX4_difficultyOf_184 rfl ?_
                    refine z_istore (pc := 186) (L' := [(4, .int (iI (shr c_2.2.2.1 f))), (3, .int (iI 1)), (2, .int (iI (((z + (4 + 1)) + 1) + 1))), (8, .int (iI 1)), (7, .int (iI (shr c_2.2.2.1 f))), (6, .int (iI (210 + 5 * i))), (5, .int (iI i)), (1, .int (iI f)), (0, .ref A.m)]) C dX4_difficultyOf_186 (by rw [hnL]; decide) rfl ?_
                    refine z_iinc (pc := 188) (k := 6) (L' := [(5, .int (iI (i + 1))), (4, .int (iI (shr c_2.2.2.1 f))), (3, .int (iI 1)), (2, .int (iI (((z + (4 + 1)) + 1) + 1))), (8, .int (iI 1)), (7, .int (iI (shr c_2.2.2.1 f))), (6, .int (iI (210 + 5 * i))), (1, .int (iI f)), (0, .ref A.m)]) C dX4_difficultyOf_188 rfl (by rw [hnL]; decide) rfl ?_
                    refine z_goto (pc := 191) (tgt := 10) C dX4_difficultyOf_191 (by decide) ?_
                    refine Z.weak (L' := [(5, .int (iI (i + 1))), (4, .int (iI (shr c_2.2.2.1 f))), (3, .int (iI 1)), (2, .int (iI (((z + (4 + 1)) + 1) + 1))), (1, .int (iI f)), (0, .ref A.m)]) (kc' := 0) (ks' := 0) [0, 1, 2, 3, 7, 8] rfl (by omega) (by omega) ?_
                    exact ih10 _ (by omega) (i + 1) (((z + (4 + 1)) + 1) + 1) 1 (shr c_2.2.2.1 f) (some c_2) (by omega) hdn (Or.inr ⟨c_2, by omega, rfl, rfl, by split <;> omega⟩) rfl
  refine Z.weak (L' := [(5, .int (iI 0)), (4, .int (iI (-1))), (3, .int (iI 0)), (2, .int (iI f)), (1, .int (iI f)), (0, .ref A.m)]) (kc' := 0) (ks' := 0) [0, 1, 2, 3, 5, 4] rfl (by omega) (by omega) ?_
  exact loop10 _ 0 f 0 (-1) none (by omega) (by rw [Int.toNat_zero, List.drop_zero]; rfl) (Or.inl ⟨rfl, rfl, rfl, rfl⟩) rfl
set_option maxHeartbeats 4000000 in
theorem md_difficulty {l : Launch} (hl : l.stackTraces = false) {Γ : zCx} {h : zH} {A : zMA} {σ : zSt} {th : Int} (hW : mdW h A σ th) {f : Int} (hf : 0 ≤ f ∧ f ≤ 7)  : zMet l yX4_difficulty (ws_ yX4_difficulty cX4_difficulty 2 (some .int)) ({ frames := 3, cells := 0, slots := 0, locals := 68 }) Γ h [.ref A.m, .int (iI f)] (zrt (fun w h' => w = some (.int (iI (dif f σ.sh.cs))) ∧ mdW h' A σ 0 ∧ zkeep h h' [A.m, A.v, A.pa, A.tx, A.ma, A.na, A.ua, A.la])) 0 0 := by
  refine zMet.of (cc := cX4_difficulty) hl (plainFor_of_name (by decide +kernel)) (Nat.le_of_ble_eq_true rfl) ?_
  intro X hXl hXΓ hXp C hnm hnL
  have C : zC X cX4_difficulty RX4 (some .int) 3 68 [] := C
  have hnL : X.2.1.2.2.2.2 = 2 := hnL
  subst hXl hXΓ
  show Z X h 0 0 [(0, .ref A.m), (1, .int (iI f))] 0 []
  obtain ⟨ap, nt, rr, rq, rb, wh, nd, up, lo, V, P, T, M, N, U, W, hM, hS, hP, htq, hR, hsl, hslh⟩ := id hW
  obtain ⟨rsi, rff, rwd, rtl, rtx, rsh, rhi, rhl⟩ := id hR
  obtain ⟨rcl, rcr, rll, rlt, rkt, rkm, rks⟩ := id rsh
  obtain ⟨hsl1, hsl2, hsl3⟩ := id hsl
  have hTr := rtx
  have hTl := rtl
  obtain ⟨gm_1, gv_1, gpa_1, gtx_1, gma_1, gna_1, gua_1, gla_1, gle_1, gqa_1, gd_1⟩ := id hM
  refine z_aload_n (pc := 0) (j := 0) C dX4_difficulty_0 rfl rfl ?_
  refine z_iconst (pc := 1) C dX4_difficulty_1 ?_
  refine z_putfield (pc := 2) (fs' := [.ref A.v, .ref A.pa, .int (iI ((σ.hi.length : Nat) : Int)), .ref A.tx, .int (iI ((σ.tx.length : Nat) : Int)), .int (iI σ.si), .int (iI σ.fl), .int (iI σ.wd), .int (iI 0), .ref A.le, .ref A.qa, .int (iI ap), .int (iI nt), .int (iI rr), .int (iI rq), .int (iI rb), .int (iI wh), .ref A.ma, .ref A.na, .int (iI nd), .ref A.ua, .ref A.la, .int (iI up), .int (iI lo)]) C in_X4 tyX4 tyX4_ok nmX4 rfl 8 (by decide) q2090 (fun _ z => z) rfl rfl rfl (Nat.le_of_ble_eq_true rfl) gm_1 rfl dX4_difficulty_2 ?_
  refine Z.nm (fun h2 eh2 => ?_)
  have kh2 : zkeep h h2 [A.m, A.v, A.pa, A.tx, A.ma, A.na, A.ua, A.la] := by rw [eh2]; exact zkeep.up zkeep.rf (Or.inl (by simp)) gm_1
  have fh2_0 : h2 A.m = some (true, .inr (3, [.ref A.v, .ref A.pa, .int (iI ((σ.hi.length : Nat) : Int)), .ref A.tx, .int (iI ((σ.tx.length : Nat) : Int)), .int (iI σ.si), .int (iI σ.fl), .int (iI σ.wd), .int (iI 0), .ref A.le, .ref A.qa, .int (iI ap), .int (iI nt), .int (iI rr), .int (iI rq), .int (iI rb), .int (iI wh), .ref A.ma, .ref A.na, .int (iI nd), .ref A.ua, .ref A.la, .int (iI up), .int (iI lo)])) := zse eh2
  have fh2_1 : h2 A.v = some (true, .inl (.int, 620, (mA V))) := zsn eh2 gv_1 (Ne.symm (zneA gm_1 gv_1))
  have fh2_2 : h2 A.pa = some (true, .inl (.int, 4960, (mA P))) := zsn eh2 gpa_1 (Ne.symm (zneA gm_1 gpa_1))
  have fh2_3 : h2 A.tx = some (true, .inl (.int, 200, (mA T))) := zsn eh2 gtx_1 (Ne.symm (zneA gm_1 gtx_1))
  have fh2_4 : h2 A.ma = some (true, .inl (.int, 620, (mA M))) := zsn eh2 gma_1 (Ne.symm (zneA gm_1 gma_1))
  have fh2_5 : h2 A.na = some (true, .inl (.int, 20, (mA N))) := zsn eh2 gna_1 (Ne.symm (zneA gm_1 gna_1))
  have fh2_6 : h2 A.ua = some (true, .inl (.int, 1200, (mA U))) := zsn eh2 gua_1 (Ne.symm (zneA gm_1 gua_1))
  have fh2_7 : h2 A.la = some (true, .inl (.int, 1200, (mA W))) := zsn eh2 gla_1 (Ne.symm (zneA gm_1 gla_1))
  refine z_iload_n (pc := 5) (j := 1) C dX4_difficulty_5 rfl rfl ?_
  refine z_iconst (pc := 6) C dX4_difficulty_6 ?_
  refine z_bipush (pc := 7) C dX4_difficulty_7 (by decide) ?_
  refine z_callS (pc := 9) (n := 3) (kc' := 0) (ks' := 0) C (m_in C.t (x := f) (a := 0) (b := 7) (by omega) (by decide) (by decide)) (lw_S q2164 q2165 q74 q2166) (by decide +kernel) ⟨by decide, by decide⟩ rfl rfl (Nat.le_of_ble_eq_true rfl) dX4_difficulty_9 (by omega) (by omega) (zpk (st' := [.int (iI (if 0 ≤ f ∧ f ≤ 7 then 1 else 0))]) rfl ?_) zrx
  rw [show ((if 0 ≤ f ∧ f ≤ 7 then 1 else 0) : Int) = 1 from if_pos (by omega)]
  show Z X h2 0 0 [(0, .ref A.m), (1, .int (iI f))] 12 [.int (iI 1)]
  refine z_if_eq (pc := 12) (tgt := 23) C dX4_difficulty_12 (by decide) (by decide) (fun z => absurd z (by decide)) (fun _ => ?_)
  refine z_aload_n (pc := 15) (j := 0) C dX4_difficulty_15 rfl rfl ?_
  refine z_iload_n (pc := 16) (j := 1) C dX4_difficulty_16 rfl rfl ?_
  refine z_callV (pc := 17) (n := 1) (kc' := 0) (ks' := 0) C (m_dif C.t ⟨fh2_0, fh2_1, fh2_2, fh2_3, fh2_4, fh2_5, fh2_6, fh2_7, (kh2.n gle_1 (List.not_mem_cons_of_ne_of_not_mem (Ne.symm (zneA gm_1 gle_1)) (List.not_mem_cons_of_ne_of_not_mem (zneT gle_1 gv_1 (by simp)) (List.not_mem_cons_of_ne_of_not_mem (zneT gle_1 gpa_1 (by simp)) (List.not_mem_cons_of_ne_of_not_mem (zneT gle_1 gtx_1 (by simp)) (List.not_mem_cons_of_ne_of_not_mem (zneT gle_1 gma_1 (by simp)) (List.not_mem_cons_of_ne_of_not_mem (zneT gle_1 gna_1 (by simp)) (List.not_mem_cons_of_ne_of_not_mem (zneT gle_1 gua_1 (by simp)) (List.not_mem_cons_of_ne_of_not_mem (zneT gle_1 gla_1 (by simp)) List.not_mem_nil))))))))), (kh2.n gqa_1 (List.not_mem_cons_of_ne_of_not_mem (Ne.symm (zneA gm_1 gqa_1)) (List.not_mem_cons_of_ne_of_not_mem (zneT gqa_1 gv_1 (by simp)) (List.not_mem_cons_of_ne_of_not_mem (zneT gqa_1 gpa_1 (by simp)) (List.not_mem_cons_of_ne_of_not_mem (zneT gqa_1 gtx_1 (by simp)) (List.not_mem_cons_of_ne_of_not_mem (zneT gqa_1 gma_1 (by simp)) (List.not_mem_cons_of_ne_of_not_mem (zneT gqa_1 gna_1 (by simp)) (List.not_mem_cons_of_ne_of_not_mem (zneT gqa_1 gua_1 (by simp)) (List.not_mem_cons_of_ne_of_not_mem (zneT gqa_1 gla_1 (by simp)) List.not_mem_nil))))))))), gd_1⟩ hS hsl rsh (f := f) (by omega)) (lw_V q2416 q2418 qs54 q74 q2419) (by decide +kernel) ⟨by decide, by decide⟩ fh2_0 rfl rfl rfl (Nat.le_of_ble_eq_true rfl) dX4_difficulty_17 (by omega) (by omega) (zpk (st' := [.int (iI (dif f σ.sh.cs))]) rfl ?_) zrx
  have hdr20 := dif_r f σ.sh.cs
  refine z_goto (pc := 20) (tgt := 28) C dX4_difficulty_20 (by decide) ?_
  exact z_ireturn (pc := 28) C (by rw [hXp]; exact ⟨_, rfl, rfl, ⟨ap, nt, rr, rq, rb, wh, nd, up, lo, V, P, T, M, N, U, W, ⟨fh2_0, fh2_1, fh2_2, fh2_3, fh2_4, fh2_5, fh2_6, fh2_7, (kh2.n gle_1 (List.not_mem_cons_of_ne_of_not_mem (Ne.symm (zneA gm_1 gle_1)) (List.not_mem_cons_of_ne_of_not_mem (zneT gle_1 gv_1 (by simp)) (List.not_mem_cons_of_ne_of_not_mem (zneT gle_1 gpa_1 (by simp)) (List.not_mem_cons_of_ne_of_not_mem (zneT gle_1 gtx_1 (by simp)) (List.not_mem_cons_of_ne_of_not_mem (zneT gle_1 gma_1 (by simp)) (List.not_mem_cons_of_ne_of_not_mem (zneT gle_1 gna_1 (by simp)) (List.not_mem_cons_of_ne_of_not_mem (zneT gle_1 gua_1 (by simp)) (List.not_mem_cons_of_ne_of_not_mem (zneT gle_1 gla_1 (by simp)) List.not_mem_nil))))))))), (kh2.n gqa_1 (List.not_mem_cons_of_ne_of_not_mem (Ne.symm (zneA gm_1 gqa_1)) (List.not_mem_cons_of_ne_of_not_mem (zneT gqa_1 gv_1 (by simp)) (List.not_mem_cons_of_ne_of_not_mem (zneT gqa_1 gpa_1 (by simp)) (List.not_mem_cons_of_ne_of_not_mem (zneT gqa_1 gtx_1 (by simp)) (List.not_mem_cons_of_ne_of_not_mem (zneT gqa_1 gma_1 (by simp)) (List.not_mem_cons_of_ne_of_not_mem (zneT gqa_1 gna_1 (by simp)) (List.not_mem_cons_of_ne_of_not_mem (zneT gqa_1 gua_1 (by simp)) (List.not_mem_cons_of_ne_of_not_mem (zneT gqa_1 gla_1 (by simp)) List.not_mem_nil))))))))), gd_1⟩, hS, hP, htq, hR, hsl, hslh⟩, kh2⟩) dX4_difficulty_28
set_option maxHeartbeats 4000000 in
theorem md_difficulty_b {l : Launch} (hl : l.stackTraces = false) {Γ : zCx} {h : zH} {A : zMA} {σ : zSt} {th : Int} (hW : mdW h A σ th) {f : Int} (hr : -2147483648 ≤ f ∧ f ≤ 2147483647) (hf : ¬ (0 ≤ f ∧ f ≤ 7))  : zMet l yX4_difficulty (ws_ yX4_difficulty cX4_difficulty 2 (some .int)) ({ frames := 1, cells := 0, slots := 0, locals := 22 }) Γ h [.ref A.m, .int (iI f)] (zrt (fun w h' => w = some (.int (iI (0))) ∧ mdW h' A σ 1 ∧ zkeep h h' [A.m, A.v, A.pa, A.tx, A.ma, A.na, A.ua, A.la])) 0 0 := by
  refine zMet.of (cc := cX4_difficulty) hl (plainFor_of_name (by decide +kernel)) (Nat.le_of_ble_eq_true rfl) ?_
  intro X hXl hXΓ hXp C hnm hnL
  have C : zC X cX4_difficulty RX4 (some .int) 1 22 [] := C
  have hnL : X.2.1.2.2.2.2 = 2 := hnL
  subst hXl hXΓ
  show Z X h 0 0 [(0, .ref A.m), (1, .int (iI f))] 0 []
  obtain ⟨ap, nt, rr, rq, rb, wh, nd, up, lo, V, P, T, M, N, U, W, hM, hS, hP, htq, hR, hsl, hslh⟩ := id hW
  obtain ⟨rsi, rff, rwd, rtl, rtx, rsh, rhi, rhl⟩ := id hR
  obtain ⟨rcl, rcr, rll, rlt, rkt, rkm, rks⟩ := id rsh
  obtain ⟨hsl1, hsl2, hsl3⟩ := id hsl
  have hTr := rtx
  have hTl := rtl
  obtain ⟨gm_1, gv_1, gpa_1, gtx_1, gma_1, gna_1, gua_1, gla_1, gle_1, gqa_1, gd_1⟩ := id hM
  refine z_aload_n (pc := 0) (j := 0) C dX4_difficulty_0 rfl rfl ?_
  refine z_iconst (pc := 1) C dX4_difficulty_1 ?_
  refine z_putfield (pc := 2) (fs' := [.ref A.v, .ref A.pa, .int (iI ((σ.hi.length : Nat) : Int)), .ref A.tx, .int (iI ((σ.tx.length : Nat) : Int)), .int (iI σ.si), .int (iI σ.fl), .int (iI σ.wd), .int (iI 0), .ref A.le, .ref A.qa, .int (iI ap), .int (iI nt), .int (iI rr), .int (iI rq), .int (iI rb), .int (iI wh), .ref A.ma, .ref A.na, .int (iI nd), .ref A.ua, .ref A.la, .int (iI up), .int (iI lo)]) C in_X4 tyX4 tyX4_ok nmX4 rfl 8 (by decide) q2090 (fun _ z => z) rfl rfl rfl (Nat.le_of_ble_eq_true rfl) gm_1 rfl dX4_difficulty_2 ?_
  refine Z.nm (fun h2 eh2 => ?_)
  have kh2 : zkeep h h2 [A.m, A.v, A.pa, A.tx, A.ma, A.na, A.ua, A.la] := by rw [eh2]; exact zkeep.up zkeep.rf (Or.inl (by simp)) gm_1
  have fh2_0 : h2 A.m = some (true, .inr (3, [.ref A.v, .ref A.pa, .int (iI ((σ.hi.length : Nat) : Int)), .ref A.tx, .int (iI ((σ.tx.length : Nat) : Int)), .int (iI σ.si), .int (iI σ.fl), .int (iI σ.wd), .int (iI 0), .ref A.le, .ref A.qa, .int (iI ap), .int (iI nt), .int (iI rr), .int (iI rq), .int (iI rb), .int (iI wh), .ref A.ma, .ref A.na, .int (iI nd), .ref A.ua, .ref A.la, .int (iI up), .int (iI lo)])) := zse eh2
  have fh2_1 : h2 A.v = some (true, .inl (.int, 620, (mA V))) := zsn eh2 gv_1 (Ne.symm (zneA gm_1 gv_1))
  have fh2_2 : h2 A.pa = some (true, .inl (.int, 4960, (mA P))) := zsn eh2 gpa_1 (Ne.symm (zneA gm_1 gpa_1))
  have fh2_3 : h2 A.tx = some (true, .inl (.int, 200, (mA T))) := zsn eh2 gtx_1 (Ne.symm (zneA gm_1 gtx_1))
  have fh2_4 : h2 A.ma = some (true, .inl (.int, 620, (mA M))) := zsn eh2 gma_1 (Ne.symm (zneA gm_1 gma_1))
  have fh2_5 : h2 A.na = some (true, .inl (.int, 20, (mA N))) := zsn eh2 gna_1 (Ne.symm (zneA gm_1 gna_1))
  have fh2_6 : h2 A.ua = some (true, .inl (.int, 1200, (mA U))) := zsn eh2 gua_1 (Ne.symm (zneA gm_1 gua_1))
  have fh2_7 : h2 A.la = some (true, .inl (.int, 1200, (mA W))) := zsn eh2 gla_1 (Ne.symm (zneA gm_1 gla_1))
  refine z_iload_n (pc := 5) (j := 1) C dX4_difficulty_5 rfl rfl ?_
  refine z_iconst (pc := 6) C dX4_difficulty_6 ?_
  refine z_bipush (pc := 7) C dX4_difficulty_7 (by decide) ?_
  refine z_callS (pc := 9) (n := 3) (kc' := 0) (ks' := 0) C (m_in C.t (x := f) (a := 0) (b := 7) (by omega) (by decide) (by decide)) (lw_S q2164 q2165 q74 q2166) (by decide +kernel) ⟨by decide, by decide⟩ rfl rfl (Nat.le_of_ble_eq_true rfl) dX4_difficulty_9 (by omega) (by omega) (zpk (st' := [.int (iI (if 0 ≤ f ∧ f ≤ 7 then 1 else 0))]) rfl ?_) zrx
  rw [show ((if 0 ≤ f ∧ f ≤ 7 then 1 else 0) : Int) = 0 from if_neg (by omega)]
  show Z X h2 0 0 [(0, .ref A.m), (1, .int (iI f))] 12 [.int (iI 0)]
  refine z_if_eq (pc := 12) (tgt := 23) C dX4_difficulty_12 (by decide) (by decide) (fun _ => ?_) (fun z => absurd z (by decide))
  refine z_aload_n (pc := 23) (j := 0) C dX4_difficulty_23 rfl rfl ?_
  refine z_iconst (pc := 24) C dX4_difficulty_24 ?_
  refine z_callV (pc := 25) (n := 1) (kc' := 0) (ks' := 0) C (m_fails C.t ⟨fh2_0, fh2_1, fh2_2, fh2_3, fh2_4, fh2_5, fh2_6, fh2_7, (kh2.n gle_1 (List.not_mem_cons_of_ne_of_not_mem (Ne.symm (zneA gm_1 gle_1)) (List.not_mem_cons_of_ne_of_not_mem (zneT gle_1 gv_1 (by simp)) (List.not_mem_cons_of_ne_of_not_mem (zneT gle_1 gpa_1 (by simp)) (List.not_mem_cons_of_ne_of_not_mem (zneT gle_1 gtx_1 (by simp)) (List.not_mem_cons_of_ne_of_not_mem (zneT gle_1 gma_1 (by simp)) (List.not_mem_cons_of_ne_of_not_mem (zneT gle_1 gna_1 (by simp)) (List.not_mem_cons_of_ne_of_not_mem (zneT gle_1 gua_1 (by simp)) (List.not_mem_cons_of_ne_of_not_mem (zneT gle_1 gla_1 (by simp)) List.not_mem_nil))))))))), (kh2.n gqa_1 (List.not_mem_cons_of_ne_of_not_mem (Ne.symm (zneA gm_1 gqa_1)) (List.not_mem_cons_of_ne_of_not_mem (zneT gqa_1 gv_1 (by simp)) (List.not_mem_cons_of_ne_of_not_mem (zneT gqa_1 gpa_1 (by simp)) (List.not_mem_cons_of_ne_of_not_mem (zneT gqa_1 gtx_1 (by simp)) (List.not_mem_cons_of_ne_of_not_mem (zneT gqa_1 gma_1 (by simp)) (List.not_mem_cons_of_ne_of_not_mem (zneT gqa_1 gna_1 (by simp)) (List.not_mem_cons_of_ne_of_not_mem (zneT gqa_1 gua_1 (by simp)) (List.not_mem_cons_of_ne_of_not_mem (zneT gqa_1 gla_1 (by simp)) List.not_mem_nil))))))))), gd_1⟩ (x := 1)) (lw_V q2167 q2169 qs27 q74 q2170) (by decide +kernel) ⟨by decide, by decide⟩ fh2_0 rfl rfl rfl (Nat.le_of_ble_eq_true rfl) dX4_difficulty_25 (by omega) (by omega) (zrk fun w h3 hp => ?_) zrx
  obtain ⟨rfl, hM_5, k4⟩ := hp
  have kh3 : zkeep h h3 [A.m, A.v, A.pa, A.tx, A.ma, A.na, A.ua, A.la] := zkeep.loc kh2 k4 (fun q hq => Or.inl (Or.inr hq))
  have hM_5 : mM h3 A ((σ.hi.length : Nat) : Int) ((σ.tx.length : Nat) : Int) σ.si σ.fl σ.wd 1 ap nt rr rq rb wh nd up lo V P T M N U W := hM_5
  obtain ⟨gm_6, gv_6, gpa_6, gtx_6, gma_6, gna_6, gua_6, gla_6, gle_6, gqa_6, gd_6⟩ := id hM_5
  show Z X h3 0 0 [(0, .ref A.m), (1, .int (iI f))] 28 [.int (iI 0)]
  exact z_ireturn (pc := 28) C (by rw [hXp]; exact ⟨_, rfl, rfl, ⟨ap, nt, rr, rq, rb, wh, nd, up, lo, V, P, T, M, N, U, W, ⟨gm_6, gv_6, gpa_6, gtx_6, gma_6, gna_6, gua_6, gla_6, gle_6, gqa_6, gd_6⟩, hS, hP, htq, hR, hsl, hslh⟩, kh3⟩) dX4_difficulty_28
set_option maxHeartbeats 4000000 in
theorem md_bestCapo {l : Launch} (hl : l.stackTraces = false) {Γ : zCx} {h : zH} {A : zMA} {σ : zSt} {th : Int} (hW : mdW h A σ th)  : zMet l yX4_bestCapo (ws_ yX4_bestCapo cX4_bestCapo 3 (some .int)) ({ frames := 3, cells := 0, slots := 0, locals := 68 }) Γ h [.ref A.m] (zrt (fun w h' => w = some (.int (iI (bcp σ.sh.cs))) ∧ mdW h' A σ 0 ∧ zkeep h h' [A.m, A.v, A.pa, A.tx, A.ma, A.na, A.ua, A.la])) 0 0 := by
  refine zMet.of (cc := cX4_bestCapo) hl (plainFor_of_name (by decide +kernel)) (Nat.le_of_ble_eq_true rfl) ?_
  intro X hXl hXΓ hXp C hnm hnL
  have C : zC X cX4_bestCapo RX4 (some .int) 3 68 [] := C
  have hnL : X.2.1.2.2.2.2 = 3 := hnL
  subst hXl hXΓ
  show Z X h 0 0 [(0, .ref A.m)] 0 []
  obtain ⟨ap, nt, rr, rq, rb, wh, nd, up, lo, V, P, T, M, N, U, W, hM, hS, hP, htq, hR, hsl, hslh⟩ := id hW
  obtain ⟨rsi, rff, rwd, rtl, rtx, rsh, rhi, rhl⟩ := id hR
  obtain ⟨rcl, rcr, rll, rlt, rkt, rkm, rks⟩ := id rsh
  obtain ⟨hsl1, hsl2, hsl3⟩ := id hsl
  have hTr := rtx
  have hTl := rtl
  obtain ⟨gm_1, gv_1, gpa_1, gtx_1, gma_1, gna_1, gua_1, gla_1, gle_1, gqa_1, gd_1⟩ := id hM
  refine z_aload_n (pc := 0) (j := 0) C dX4_bestCapo_0 rfl rfl ?_
  refine z_iconst (pc := 1) C dX4_bestCapo_1 ?_
  refine z_putfield (pc := 2) (fs' := [.ref A.v, .ref A.pa, .int (iI ((σ.hi.length : Nat) : Int)), .ref A.tx, .int (iI ((σ.tx.length : Nat) : Int)), .int (iI σ.si), .int (iI σ.fl), .int (iI σ.wd), .int (iI 0), .ref A.le, .ref A.qa, .int (iI ap), .int (iI nt), .int (iI rr), .int (iI rq), .int (iI rb), .int (iI wh), .ref A.ma, .ref A.na, .int (iI nd), .ref A.ua, .ref A.la, .int (iI up), .int (iI lo)]) C in_X4 tyX4 tyX4_ok nmX4 rfl 8 (by decide) q2090 (fun _ z => z) rfl rfl rfl (Nat.le_of_ble_eq_true rfl) gm_1 rfl dX4_bestCapo_2 ?_
  refine Z.nm (fun h2 eh2 => ?_)
  have kh2 : zkeep h h2 [A.m, A.v, A.pa, A.tx, A.ma, A.na, A.ua, A.la] := by rw [eh2]; exact zkeep.up zkeep.rf (Or.inl (by simp)) gm_1
  have fh2_0 : h2 A.m = some (true, .inr (3, [.ref A.v, .ref A.pa, .int (iI ((σ.hi.length : Nat) : Int)), .ref A.tx, .int (iI ((σ.tx.length : Nat) : Int)), .int (iI σ.si), .int (iI σ.fl), .int (iI σ.wd), .int (iI 0), .ref A.le, .ref A.qa, .int (iI ap), .int (iI nt), .int (iI rr), .int (iI rq), .int (iI rb), .int (iI wh), .ref A.ma, .ref A.na, .int (iI nd), .ref A.ua, .ref A.la, .int (iI up), .int (iI lo)])) := zse eh2
  have fh2_1 : h2 A.v = some (true, .inl (.int, 620, (mA V))) := zsn eh2 gv_1 (Ne.symm (zneA gm_1 gv_1))
  have fh2_2 : h2 A.pa = some (true, .inl (.int, 4960, (mA P))) := zsn eh2 gpa_1 (Ne.symm (zneA gm_1 gpa_1))
  have fh2_3 : h2 A.tx = some (true, .inl (.int, 200, (mA T))) := zsn eh2 gtx_1 (Ne.symm (zneA gm_1 gtx_1))
  have fh2_4 : h2 A.ma = some (true, .inl (.int, 620, (mA M))) := zsn eh2 gma_1 (Ne.symm (zneA gm_1 gma_1))
  have fh2_5 : h2 A.na = some (true, .inl (.int, 20, (mA N))) := zsn eh2 gna_1 (Ne.symm (zneA gm_1 gna_1))
  have fh2_6 : h2 A.ua = some (true, .inl (.int, 1200, (mA U))) := zsn eh2 gua_1 (Ne.symm (zneA gm_1 gua_1))
  have fh2_7 : h2 A.la = some (true, .inl (.int, 1200, (mA W))) := zsn eh2 gla_1 (Ne.symm (zneA gm_1 gla_1))
  refine z_iconst (pc := 5) C dX4_bestCapo_5 ?_
  refine z_istore_n (pc := 6) (L' := [(1, .int (iI 0)), (0, .ref A.m)]) C dX4_bestCapo_6 rfl (by rw [hnL]; decide) rfl ?_
  refine z_iconst (pc := 7) C dX4_bestCapo_7 ?_
  refine z_istore_n (pc := 8) (L' := [(2, .int (iI 1)), (1, .int (iI 0)), (0, .ref A.m)]) C dX4_bestCapo_8 rfl (by rw [hnL]; decide) rfl ?_
  have loop9 : ∀ (n9 : Nat) (f : Int) (b : Int) (g9 : zH), (mM g9 A ((σ.hi.length : Nat) : Int) ((σ.tx.length : Nat) : Int) σ.si σ.fl σ.wd 0 ap nt rr rq rb wh nd up lo V P T M N U W) → (zkeep h g9 [A.m, A.v, A.pa, A.tx, A.ma, A.na, A.ua, A.la]) → (1 ≤ f ∧ f ≤ 8) → (0 ≤ b ∧ b ≤ 7) → (bcg σ.sh.cs (8 - f.toNat) f b (dif b σ.sh.cs) = bcp σ.sh.cs) → ((8 - f).toNat) = n9 → Z X g9 0 0 [(2, .int (iI f)), (1, .int (iI b)), (0, .ref A.m)] 9 [] := by
    intro n9
    induction n9 using Nat.strongRecOn with
    | ind n9 ih9 =>
    intro f b g9 hMg9 hkp9 hf hb hd hn9
    obtain ⟨gm_3, gv_3, gpa_3, gtx_3, gma_3, gna_3, gua_3, gla_3, gle_3, gqa_3, gd_3⟩ := id hMg9
    refine z_iload_n (pc := 9) (j := 0) C dX4_bestCapo_9 rfl rfl ?_
    refine z_bipush (pc := 10) C dX4_bestCapo_10 (by decide) ?_
    refine z_icmp_gt (pc := 12) (tgt := 40) C dX4_bestCapo_12 (by decide) (by omega) (by decide) (fun c12 => ?_) (fun c12 => ?_)
    · refine z_iload_n (pc := 40) (j := 1) C dX4_bestCapo_40 rfl rfl ?_
      exact z_ireturn (pc := 41) C (by rw [hXp]; exact ⟨_, rfl, (by rw [show 8 - f.toNat = 0 by omega, bcg] at hd; rw [hd]), ⟨ap, nt, rr, rq, rb, wh, nd, up, lo, V, P, T, M, N, U, W, ⟨gm_3, gv_3, gpa_3, gtx_3, gma_3, gna_3, gua_3, gla_3, gle_3, gqa_3, gd_3⟩, hS, hP, htq, hR, hsl, hslh⟩, hkp9⟩) dX4_bestCapo_41
    · refine z_aload_n (pc := 15) (j := 2) C dX4_bestCapo_15 rfl rfl ?_
      refine z_iload_n (pc := 16) (j := 0) C dX4_bestCapo_16 rfl rfl ?_
      refine z_callV (pc := 17) (n := 1) (kc' := 0) (ks' := 0) C (m_dif C.t ⟨gm_3, gv_3, gpa_3, gtx_3, gma_3, gna_3, gua_3, gla_3, gle_3, gqa_3, gd_3⟩ hS hsl rsh (f := f) (by omega)) (lw_V q2416 q2418 qs54 q74 q2419) (by decide +kernel) ⟨by decide, by decide⟩ gm_3 rfl rfl rfl (Nat.le_of_ble_eq_true rfl) dX4_bestCapo_17 (by omega) (by omega) (zpk (st' := [.int (iI (dif f σ.sh.cs))]) rfl ?_) zrx
      have hdr20 := dif_r f σ.sh.cs
      refine z_aload_n (pc := 20) (j := 2) C dX4_bestCapo_20 rfl rfl ?_
      refine z_iload_n (pc := 21) (j := 1) C dX4_bestCapo_21 rfl rfl ?_
      refine z_callV (pc := 22) (n := 1) (kc' := 0) (ks' := 0) C (m_dif C.t ⟨gm_3, gv_3, gpa_3, gtx_3, gma_3, gna_3, gua_3, gla_3, gle_3, gqa_3, gd_3⟩ hS hsl rsh (f := b) (by omega)) (lw_V q2416 q2418 qs54 q74 q2419) (by decide +kernel) ⟨by decide, by decide⟩ gm_3 rfl rfl rfl (Nat.le_of_ble_eq_true rfl) dX4_bestCapo_22 (by omega) (by omega) (zpk (st' := [.int (iI (dif b σ.sh.cs)), .int (iI (dif f σ.sh.cs))]) rfl ?_) zrx
      have hdr25 := dif_r b σ.sh.cs
      refine z_icmp_ge (pc := 25) (tgt := 32) C dX4_bestCapo_25 (by decide) (by omega) (by omega) (fun c25 => ?_) (fun c25 => ?_)
      · refine z_iload_n (pc := 32) (j := 1) C dX4_bestCapo_32 rfl rfl ?_
        refine z_istore_n (pc := 33) (L' := [(1, .int (iI b)), (2, .int (iI f)), (0, .ref A.m)]) C dX4_bestCapo_33 rfl (by rw [hnL]; decide) rfl ?_
        refine z_iinc (pc := 34) (k := 1) (L' := [(2, .int (iI (f + 1))), (1, .int (iI b)), (0, .ref A.m)]) C dX4_bestCapo_34 rfl (by rw [hnL]; decide) rfl ?_
        refine z_goto (pc := 37) (tgt := 9) C dX4_bestCapo_37 (by decide) ?_
        refine Z.weak (L' := [(2, .int (iI (f + 1))), (1, .int (iI b)), (0, .ref A.m)]) (kc' := 0) (ks' := 0) [0, 1, 2] rfl (by omega) (by omega) ?_
        exact ih9 _ (by omega) (f + 1) b g9 ⟨gm_3, gv_3, gpa_3, gtx_3, gma_3, gna_3, gua_3, gla_3, gle_3, gqa_3, gd_3⟩ hkp9 (by omega) (by omega) (bcg_st (by omega) hd (Or.inr ⟨rfl, by omega⟩)) rfl
      · refine z_iload_n (pc := 28) (j := 0) C dX4_bestCapo_28 rfl rfl ?_
        refine z_goto (pc := 29) (tgt := 33) C dX4_bestCapo_29 (by decide) ?_
        refine z_istore_n (pc := 33) (L' := [(1, .int (iI f)), (2, .int (iI f)), (0, .ref A.m)]) C dX4_bestCapo_33 rfl (by rw [hnL]; decide) rfl ?_
        refine z_iinc (pc := 34) (k := 1) (L' := [(2, .int (iI (f + 1))), (1, .int (iI f)), (0, .ref A.m)]) C dX4_bestCapo_34 rfl (by rw [hnL]; decide) rfl ?_
        refine z_goto (pc := 37) (tgt := 9) C dX4_bestCapo_37 (by decide) ?_
        refine Z.weak (L' := [(2, .int (iI (f + 1))), (1, .int (iI f)), (0, .ref A.m)]) (kc' := 0) (ks' := 0) [0, 1, 2] rfl (by omega) (by omega) ?_
        exact ih9 _ (by omega) (f + 1) f g9 ⟨gm_3, gv_3, gpa_3, gtx_3, gma_3, gna_3, gua_3, gla_3, gle_3, gqa_3, gd_3⟩ hkp9 (by omega) (by omega) (bcg_st (by omega) hd (Or.inl ⟨rfl, by omega⟩)) rfl
  refine Z.weak (L' := [(2, .int (iI 1)), (1, .int (iI 0)), (0, .ref A.m)]) (kc' := 0) (ks' := 0) [0, 1, 2] rfl (by omega) (by omega) ?_
  exact loop9 _ 1 0 h2 ⟨fh2_0, fh2_1, fh2_2, fh2_3, fh2_4, fh2_5, fh2_6, fh2_7, (kh2.n gle_1 (List.not_mem_cons_of_ne_of_not_mem (Ne.symm (zneA gm_1 gle_1)) (List.not_mem_cons_of_ne_of_not_mem (zneT gle_1 gv_1 (by simp)) (List.not_mem_cons_of_ne_of_not_mem (zneT gle_1 gpa_1 (by simp)) (List.not_mem_cons_of_ne_of_not_mem (zneT gle_1 gtx_1 (by simp)) (List.not_mem_cons_of_ne_of_not_mem (zneT gle_1 gma_1 (by simp)) (List.not_mem_cons_of_ne_of_not_mem (zneT gle_1 gna_1 (by simp)) (List.not_mem_cons_of_ne_of_not_mem (zneT gle_1 gua_1 (by simp)) (List.not_mem_cons_of_ne_of_not_mem (zneT gle_1 gla_1 (by simp)) List.not_mem_nil))))))))), (kh2.n gqa_1 (List.not_mem_cons_of_ne_of_not_mem (Ne.symm (zneA gm_1 gqa_1)) (List.not_mem_cons_of_ne_of_not_mem (zneT gqa_1 gv_1 (by simp)) (List.not_mem_cons_of_ne_of_not_mem (zneT gqa_1 gpa_1 (by simp)) (List.not_mem_cons_of_ne_of_not_mem (zneT gqa_1 gtx_1 (by simp)) (List.not_mem_cons_of_ne_of_not_mem (zneT gqa_1 gma_1 (by simp)) (List.not_mem_cons_of_ne_of_not_mem (zneT gqa_1 gna_1 (by simp)) (List.not_mem_cons_of_ne_of_not_mem (zneT gqa_1 gua_1 (by simp)) (List.not_mem_cons_of_ne_of_not_mem (zneT gqa_1 gla_1 (by simp)) List.not_mem_nil))))))))), gd_1⟩ kh2 (by omega) (by omega) rfl rfl

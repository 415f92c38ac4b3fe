/-! 39.dif.lean.txt -/
set_option maxRecDepth 100000
abbrev cJ25_put : ByteArray := prog_48_method_15_code
def yJ25_put : MethodName := ⟨RJ25, "put", "(Ljava/lang/Object;Ljava/lang/Object;)Ljava/lang/Object;"⟩
def dkwJ25_put_0 : List UInt8 := [42, 43, 184, 0, 149, 43, 44, 3, 4, 182, 0, 152, 176]
abbrev dktJ25_put_0 : List UInt8 := dkwJ25_put_0 ++ []
theorem dksJ25_put_0 : cJ25_put.data.toList.drop 0 = dktJ25_put_0 := by decide +kernel
abbrev cX2_difficulty : ByteArray := prog_7_method_7_code
def yX2_difficulty : MethodName := ⟨RX2, "difficulty", "(I)I"⟩
def dkwX2_difficulty_9 : List UInt8 := [167, 255, 210, 21, 4, 172]
abbrev dktX2_difficulty_9 : List UInt8 := dkwX2_difficulty_9 ++ []
def dkwX2_difficulty_8 : List UInt8 := [45, 21, 6, 182, 0, 32, 182, 0, 99, 192, 0, 102, 180, 0, 109, 104, 96, 54, 4, 132, 6, 1]
abbrev dktX2_difficulty_8 : List UInt8 := dkwX2_difficulty_8 ++ dktX2_difficulty_9
def dkwX2_difficulty_7 : List UInt8 := [21, 6, 45, 182, 0, 28, 162, 0, 43, 21, 4, 45, 21, 6, 182, 0, 32, 192, 0, 113, 182, 0, 118, 44]
abbrev dktX2_difficulty_7 : List UInt8 := dkwX2_difficulty_7 ++ dktX2_difficulty_8
def dkwX2_difficulty_6 : List UInt8 := [159, 0, 7, 4, 167, 0, 4, 3, 96, 54, 4, 25, 7, 58, 5, 132, 6, 1, 167, 255, 123, 3, 54, 6]
abbrev dktX2_difficulty_6 : List UInt8 := dkwX2_difficulty_6 ++ dktX2_difficulty_7
def dkwX2_difficulty_5 : List UInt8 := [182, 0, 112, 154, 0, 28, 25, 7, 182, 0, 112, 154, 0, 20, 25, 5, 180, 0, 117, 25, 7, 180, 0, 117]
abbrev dktX2_difficulty_5 : List UInt8 := dkwX2_difficulty_5 ++ dktX2_difficulty_6
def dkwX2_difficulty_4 : List UInt8 := [182, 0, 38, 87, 25, 8, 89, 180, 0, 109, 4, 96, 181, 0, 109, 21, 4, 25, 5, 198, 0, 36, 25, 5]
abbrev dktX2_difficulty_4 : List UInt8 := dkwX2_difficulty_4 ++ dktX2_difficulty_5
def dkwX2_difficulty_3 : List UInt8 := [199, 0, 28, 187, 0, 102, 89, 183, 0, 104, 58, 8, 44, 25, 7, 25, 8, 182, 0, 105, 87, 45, 25, 7]
abbrev dktX2_difficulty_3 : List UInt8 := dkwX2_difficulty_3 ++ dktX2_difficulty_4
def dkwX2_difficulty_2 : List UInt8 := [192, 0, 42, 27, 182, 0, 95, 58, 7, 44, 25, 7, 182, 0, 99, 192, 0, 102, 58, 8, 25, 8]
abbrev dktX2_difficulty_2 : List UInt8 := dkwX2_difficulty_2 ++ dktX2_difficulty_3
def dkwX2_difficulty_1 : List UInt8 := [54, 6, 21, 6, 42, 180, 0, 18, 182, 0, 28, 162, 0, 127, 42, 180, 0, 18, 21, 6, 182, 0, 32]
abbrev dktX2_difficulty_1 : List UInt8 := dkwX2_difficulty_1 ++ dktX2_difficulty_2
def dkwX2_difficulty_0 : List UInt8 := [187, 0, 92, 89, 183, 0, 94, 77, 187, 0, 9, 89, 183, 0, 11, 78, 27, 54, 4, 1, 58, 5, 3]
abbrev dktX2_difficulty_0 : List UInt8 := dkwX2_difficulty_0 ++ dktX2_difficulty_1
theorem dksX2_difficulty_0 : cX2_difficulty.data.toList.drop 0 = dktX2_difficulty_0 := by decide +kernel
theorem dksX2_difficulty_1 : cX2_difficulty.data.toList.drop 23 = dktX2_difficulty_1 := dk_seg dksX2_difficulty_0 23 rfl rfl
theorem dksX2_difficulty_2 : cX2_difficulty.data.toList.drop 46 = dktX2_difficulty_2 := dk_seg dksX2_difficulty_1 23 rfl rfl
theorem dksX2_difficulty_3 : cX2_difficulty.data.toList.drop 68 = dktX2_difficulty_3 := dk_seg dksX2_difficulty_2 22 rfl rfl
theorem dksX2_difficulty_4 : cX2_difficulty.data.toList.drop 92 = dktX2_difficulty_4 := dk_seg dksX2_difficulty_3 24 rfl rfl
theorem dksX2_difficulty_5 : cX2_difficulty.data.toList.drop 116 = dktX2_difficulty_5 := dk_seg dksX2_difficulty_4 24 rfl rfl
theorem dksX2_difficulty_6 : cX2_difficulty.data.toList.drop 140 = dktX2_difficulty_6 := dk_seg dksX2_difficulty_5 24 rfl rfl
theorem dksX2_difficulty_7 : cX2_difficulty.data.toList.drop 164 = dktX2_difficulty_7 := dk_seg dksX2_difficulty_6 24 rfl rfl
theorem dksX2_difficulty_8 : cX2_difficulty.data.toList.drop 188 = dktX2_difficulty_8 := dk_seg dksX2_difficulty_7 24 rfl rfl
theorem dksX2_difficulty_9 : cX2_difficulty.data.toList.drop 210 = dktX2_difficulty_9 := dk_seg dksX2_difficulty_8 22 rfl rfl
abbrev cX1_difficulty : ByteArray := prog_1_method_51_code
def yX1_difficulty : MethodName := ⟨RX1, "difficulty", "(I)I"⟩
def dkwX1_difficulty_0 : List UInt8 := [27, 133, 9, 20, 1, 43, 184, 0, 56, 184, 0, 140, 42, 180, 0, 31, 27, 182, 1, 45, 172]
abbrev dktX1_difficulty_0 : List UInt8 := dkwX1_difficulty_0 ++ []
theorem dksX1_difficulty_0 : cX1_difficulty.data.toList.drop 0 = dktX1_difficulty_0 := by decide +kernel
abbrev cX1_bestCapo : ByteArray := prog_1_method_52_code
def yX1_bestCapo : MethodName := ⟨RX1, "bestCapo", "()I"⟩
def dkwX1_bestCapo_2 : List UInt8 := [132, 3, 1, 167, 255, 218, 27, 172]
abbrev dktX1_bestCapo_2 : List UInt8 := dkwX1_bestCapo_2 ++ []
def dkwX1_bestCapo_1 : List UInt8 := [182, 1, 45, 54, 4, 21, 4, 28, 162, 0, 7, 29, 167, 0, 4, 27, 60, 28, 21, 4, 184, 1, 48, 61]
abbrev dktX1_bestCapo_1 : List UInt8 := dkwX1_bestCapo_1 ++ dktX1_bestCapo_2
def dkwX1_bestCapo_0 : List UInt8 := [3, 60, 42, 180, 0, 31, 3, 182, 1, 45, 61, 4, 62, 29, 16, 7, 163, 0, 38, 42, 180, 0, 31, 29]
abbrev dktX1_bestCapo_0 : List UInt8 := dkwX1_bestCapo_0 ++ dktX1_bestCapo_1
theorem dksX1_bestCapo_0 : cX1_bestCapo.data.toList.drop 0 = dktX1_bestCapo_0 := by decide +kernel
theorem dksX1_bestCapo_1 : cX1_bestCapo.data.toList.drop 24 = dktX1_bestCapo_1 := dk_seg dksX1_bestCapo_0 24 rfl rfl
theorem dksX1_bestCapo_2 : cX1_bestCapo.data.toList.drop 48 = dktX1_bestCapo_2 := dk_seg dksX1_bestCapo_1 24 rfl rfl
theorem dJ25_put_0 : decode cJ25_put 0 = .ok (.aload_n 0, 1) := dk_42 (dk_at dksJ25_put_0 0 rfl rfl)
theorem dJ25_put_1 : decode cJ25_put 1 = .ok (.aload_n 1, 1) := dk_43 (dk_at dksJ25_put_0 1 rfl rfl)
theorem dJ25_put_2 : decode cJ25_put 2 = .ok (.invokestatic 149, 3) := dk_184 0 149 (dk_at dksJ25_put_0 2 rfl rfl)
theorem dJ25_put_5 : decode cJ25_put 5 = .ok (.aload_n 1, 1) := dk_43 (dk_at dksJ25_put_0 5 rfl rfl)
theorem dJ25_put_6 : decode cJ25_put 6 = .ok (.aload_n 2, 1) := dk_44 (dk_at dksJ25_put_0 6 rfl rfl)
theorem dJ25_put_7 : decode cJ25_put 7 = .ok (.iconst 0, 1) := dk_3 (dk_at dksJ25_put_0 7 rfl rfl)
theorem dJ25_put_8 : decode cJ25_put 8 = .ok (.iconst 1, 1) := dk_4 (dk_at dksJ25_put_0 8 rfl rfl)
theorem dJ25_put_9 : decode cJ25_put 9 = .ok (.invokevirtual 152, 3) := dk_182 0 152 (dk_at dksJ25_put_0 9 rfl rfl)
theorem dJ25_put_12 : decode cJ25_put 12 = .ok (.areturn, 1) := dk_176 (dk_at dksJ25_put_0 12 rfl rfl)
theorem dX2_difficulty_0 : decode cX2_difficulty 0 = .ok (.new 92, 3) := dk_187 0 92 (dk_at dksX2_difficulty_0 0 rfl rfl)
theorem dX2_difficulty_3 : decode cX2_difficulty 3 = .ok (.dup, 1) := dk_89 (dk_at dksX2_difficulty_0 3 rfl rfl)
theorem dX2_difficulty_4 : decode cX2_difficulty 4 = .ok (.invokespecial 94, 3) := dk_183 0 94 (dk_at dksX2_difficulty_0 4 rfl rfl)
theorem dX2_difficulty_7 : decode cX2_difficulty 7 = .ok (.astore_n 2, 1) := dk_77 (dk_at dksX2_difficulty_0 7 rfl rfl)
theorem dX2_difficulty_8 : decode cX2_difficulty 8 = .ok (.new 9, 3) := dk_187 0 9 (dk_at dksX2_difficulty_0 8 rfl rfl)
theorem dX2_difficulty_11 : decode cX2_difficulty 11 = .ok (.dup, 1) := dk_89 (dk_at dksX2_difficulty_0 11 rfl rfl)
theorem dX2_difficulty_12 : decode cX2_difficulty 12 = .ok (.invokespecial 11, 3) := dk_183 0 11 (dk_at dksX2_difficulty_0 12 rfl rfl)
theorem dX2_difficulty_15 : decode cX2_difficulty 15 = .ok (.astore_n 3, 1) := dk_78 (dk_at dksX2_difficulty_0 15 rfl rfl)
theorem dX2_difficulty_16 : decode cX2_difficulty 16 = .ok (.iload_n 1, 1) := dk_27 (dk_at dksX2_difficulty_0 16 rfl rfl)
theorem dX2_difficulty_17 : decode cX2_difficulty 17 = .ok (.istore 4, 2) := dk_54 4 (dk_at dksX2_difficulty_0 17 rfl rfl)
theorem dX2_difficulty_19 : decode cX2_difficulty 19 = .ok (.aconst_null, 1) := dk_1 (dk_at dksX2_difficulty_0 19 rfl rfl)
theorem dX2_difficulty_20 : decode cX2_difficulty 20 = .ok (.astore 5, 2) := dk_58 5 (dk_at dksX2_difficulty_0 20 rfl rfl)
theorem dX2_difficulty_22 : decode cX2_difficulty 22 = .ok (.iconst 0, 1) := dk_3 (dk_at dksX2_difficulty_0 22 rfl rfl)
theorem dX2_difficulty_23 : decode cX2_difficulty 23 = .ok (.istore 6, 2) := dk_54 6 (dk_at dksX2_difficulty_1 0 rfl rfl)
theorem dX2_difficulty_25 : decode cX2_difficulty 25 = .ok (.iload 6, 2) := dk_21 6 (dk_at dksX2_difficulty_1 2 rfl rfl)
theorem dX2_difficulty_27 : decode cX2_difficulty 27 = .ok (.aload_n 0, 1) := dk_42 (dk_at dksX2_difficulty_1 4 rfl rfl)
theorem dX2_difficulty_28 : decode cX2_difficulty 28 = .ok (.getfield 18, 3) := dk_180 0 18 (dk_at dksX2_difficulty_1 5 rfl rfl)
theorem dX2_difficulty_31 : decode cX2_difficulty 31 = .ok (.invokevirtual 28, 3) := dk_182 0 28 (dk_at dksX2_difficulty_1 8 rfl rfl)
theorem dX2_difficulty_34 : decode cX2_difficulty 34 = .ok (.if_icmp .ge 127, 3) := dk_162 0 127 (dk_at dksX2_difficulty_1 11 rfl rfl)
theorem dX2_difficulty_37 : decode cX2_difficulty 37 = .ok (.aload_n 0, 1) := dk_42 (dk_at dksX2_difficulty_1 14 rfl rfl)
theorem dX2_difficulty_38 : decode cX2_difficulty 38 = .ok (.getfield 18, 3) := dk_180 0 18 (dk_at dksX2_difficulty_1 15 rfl rfl)
theorem dX2_difficulty_41 : decode cX2_difficulty 41 = .ok (.iload 6, 2) := dk_21 6 (dk_at dksX2_difficulty_1 18 rfl rfl)
theorem dX2_difficulty_43 : decode cX2_difficulty 43 = .ok (.invokevirtual 32, 3) := dk_182 0 32 (dk_at dksX2_difficulty_1 20 rfl rfl)
theorem dX2_difficulty_46 : decode cX2_difficulty 46 = .ok (.checkcast 42, 3) := dk_192 0 42 (dk_at dksX2_difficulty_2 0 rfl rfl)
theorem dX2_difficulty_49 : decode cX2_difficulty 49 = .ok (.iload_n 1, 1) := dk_27 (dk_at dksX2_difficulty_2 3 rfl rfl)
theorem dX2_difficulty_50 : decode cX2_difficulty 50 = .ok (.invokevirtual 95, 3) := dk_182 0 95 (dk_at dksX2_difficulty_2 4 rfl rfl)
theorem dX2_difficulty_53 : decode cX2_difficulty 53 = .ok (.astore 7, 2) := dk_58 7 (dk_at dksX2_difficulty_2 7 rfl rfl)
theorem dX2_difficulty_55 : decode cX2_difficulty 55 = .ok (.aload_n 2, 1) := dk_44 (dk_at dksX2_difficulty_2 9 rfl rfl)
theorem dX2_difficulty_56 : decode cX2_difficulty 56 = .ok (.aload 7, 2) := dk_25 7 (dk_at dksX2_difficulty_2 10 rfl rfl)
theorem dX2_difficulty_58 : decode cX2_difficulty 58 = .ok (.invokevirtual 99, 3) := dk_182 0 99 (dk_at dksX2_difficulty_2 12 rfl rfl)
theorem dX2_difficulty_61 : decode cX2_difficulty 61 = .ok (.checkcast 102, 3) := dk_192 0 102 (dk_at dksX2_difficulty_2 15 rfl rfl)
theorem dX2_difficulty_64 : decode cX2_difficulty 64 = .ok (.astore 8, 2) := dk_58 8 (dk_at dksX2_difficulty_2 18 rfl rfl)
theorem dX2_difficulty_66 : decode cX2_difficulty 66 = .ok (.aload 8, 2) := dk_25 8 (dk_at dksX2_difficulty_2 20 rfl rfl)
theorem dX2_difficulty_68 : decode cX2_difficulty 68 = .ok (.ifnonnull 28, 3) := dk_199 0 28 (dk_at dksX2_difficulty_3 0 rfl rfl)
theorem dX2_difficulty_71 : decode cX2_difficulty 71 = .ok (.new 102, 3) := dk_187 0 102 (dk_at dksX2_difficulty_3 3 rfl rfl)
theorem dX2_difficulty_74 : decode cX2_difficulty 74 = .ok (.dup, 1) := dk_89 (dk_at dksX2_difficulty_3 6 rfl rfl)
theorem dX2_difficulty_75 : decode cX2_difficulty 75 = .ok (.invokespecial 104, 3) := dk_183 0 104 (dk_at dksX2_difficulty_3 7 rfl rfl)
theorem dX2_difficulty_78 : decode cX2_difficulty 78 = .ok (.astore 8, 2) := dk_58 8 (dk_at dksX2_difficulty_3 10 rfl rfl)
theorem dX2_difficulty_80 : decode cX2_difficulty 80 = .ok (.aload_n 2, 1) := dk_44 (dk_at dksX2_difficulty_3 12 rfl rfl)
theorem dX2_difficulty_81 : decode cX2_difficulty 81 = .ok (.aload 7, 2) := dk_25 7 (dk_at dksX2_difficulty_3 13 rfl rfl)
theorem dX2_difficulty_83 : decode cX2_difficulty 83 = .ok (.aload 8, 2) := dk_25 8 (dk_at dksX2_difficulty_3 15 rfl rfl)
theorem dX2_difficulty_85 : decode cX2_difficulty 85 = .ok (.invokevirtual 105, 3) := dk_182 0 105 (dk_at dksX2_difficulty_3 17 rfl rfl)
theorem dX2_difficulty_88 : decode cX2_difficulty 88 = .ok (.pop, 1) := dk_87 (dk_at dksX2_difficulty_3 20 rfl rfl)
theorem dX2_difficulty_89 : decode cX2_difficulty 89 = .ok (.aload_n 3, 1) := dk_45 (dk_at dksX2_difficulty_3 21 rfl rfl)
theorem dX2_difficulty_90 : decode cX2_difficulty 90 = .ok (.aload 7, 2) := dk_25 7 (dk_at dksX2_difficulty_3 22 rfl rfl)
theorem dX2_difficulty_92 : decode cX2_difficulty 92 = .ok (.invokevirtual 38, 3) := dk_182 0 38 (dk_at dksX2_difficulty_4 0 rfl rfl)
theorem dX2_difficulty_95 : decode cX2_difficulty 95 = .ok (.pop, 1) := dk_87 (dk_at dksX2_difficulty_4 3 rfl rfl)
theorem dX2_difficulty_96 : decode cX2_difficulty 96 = .ok (.aload 8, 2) := dk_25 8 (dk_at dksX2_difficulty_4 4 rfl rfl)
theorem dX2_difficulty_98 : decode cX2_difficulty 98 = .ok (.dup, 1) := dk_89 (dk_at dksX2_difficulty_4 6 rfl rfl)
theorem dX2_difficulty_99 : decode cX2_difficulty 99 = .ok (.getfield 109, 3) := dk_180 0 109 (dk_at dksX2_difficulty_4 7 rfl rfl)
theorem dX2_difficulty_102 : decode cX2_difficulty 102 = .ok (.iconst 1, 1) := dk_4 (dk_at dksX2_difficulty_4 10 rfl rfl)
theorem dX2_difficulty_103 : decode cX2_difficulty 103 = .ok (.iadd, 1) := dk_96 (dk_at dksX2_difficulty_4 11 rfl rfl)
theorem dX2_difficulty_104 : decode cX2_difficulty 104 = .ok (.putfield 109, 3) := dk_181 0 109 (dk_at dksX2_difficulty_4 12 rfl rfl)
theorem dX2_difficulty_107 : decode cX2_difficulty 107 = .ok (.iload 4, 2) := dk_21 4 (dk_at dksX2_difficulty_4 15 rfl rfl)
theorem dX2_difficulty_109 : decode cX2_difficulty 109 = .ok (.aload 5, 2) := dk_25 5 (dk_at dksX2_difficulty_4 17 rfl rfl)
theorem dX2_difficulty_111 : decode cX2_difficulty 111 = .ok (.ifnull 36, 3) := dk_198 0 36 (dk_at dksX2_difficulty_4 19 rfl rfl)
theorem dX2_difficulty_114 : decode cX2_difficulty 114 = .ok (.aload 5, 2) := dk_25 5 (dk_at dksX2_difficulty_4 22 rfl rfl)
theorem dX2_difficulty_116 : decode cX2_difficulty 116 = .ok (.invokevirtual 112, 3) := dk_182 0 112 (dk_at dksX2_difficulty_5 0 rfl rfl)
theorem dX2_difficulty_119 : decode cX2_difficulty 119 = .ok (.ifCond .ne 28, 3) := dk_154 0 28 (dk_at dksX2_difficulty_5 3 rfl rfl)
theorem dX2_difficulty_122 : decode cX2_difficulty 122 = .ok (.aload 7, 2) := dk_25 7 (dk_at dksX2_difficulty_5 6 rfl rfl)
theorem dX2_difficulty_124 : decode cX2_difficulty 124 = .ok (.invokevirtual 112, 3) := dk_182 0 112 (dk_at dksX2_difficulty_5 8 rfl rfl)
theorem dX2_difficulty_127 : decode cX2_difficulty 127 = .ok (.ifCond .ne 20, 3) := dk_154 0 20 (dk_at dksX2_difficulty_5 11 rfl rfl)
theorem dX2_difficulty_130 : decode cX2_difficulty 130 = .ok (.aload 5, 2) := dk_25 5 (dk_at dksX2_difficulty_5 14 rfl rfl)
theorem dX2_difficulty_132 : decode cX2_difficulty 132 = .ok (.getfield 117, 3) := dk_180 0 117 (dk_at dksX2_difficulty_5 16 rfl rfl)
theorem dX2_difficulty_135 : decode cX2_difficulty 135 = .ok (.aload 7, 2) := dk_25 7 (dk_at dksX2_difficulty_5 19 rfl rfl)
theorem dX2_difficulty_137 : decode cX2_difficulty 137 = .ok (.getfield 117, 3) := dk_180 0 117 (dk_at dksX2_difficulty_5 21 rfl rfl)
theorem dX2_difficulty_140 : decode cX2_difficulty 140 = .ok (.if_icmp .eq 7, 3) := dk_159 0 7 (dk_at dksX2_difficulty_6 0 rfl rfl)
theorem dX2_difficulty_143 : decode cX2_difficulty 143 = .ok (.iconst 1, 1) := dk_4 (dk_at dksX2_difficulty_6 3 rfl rfl)
theorem dX2_difficulty_144 : decode cX2_difficulty 144 = .ok (.goto 4, 3) := dk_167 0 4 (dk_at dksX2_difficulty_6 4 rfl rfl)
theorem dX2_difficulty_147 : decode cX2_difficulty 147 = .ok (.iconst 0, 1) := dk_3 (dk_at dksX2_difficulty_6 7 rfl rfl)
theorem dX2_difficulty_148 : decode cX2_difficulty 148 = .ok (.iadd, 1) := dk_96 (dk_at dksX2_difficulty_6 8 rfl rfl)
theorem dX2_difficulty_149 : decode cX2_difficulty 149 = .ok (.istore 4, 2) := dk_54 4 (dk_at dksX2_difficulty_6 9 rfl rfl)
theorem dX2_difficulty_151 : decode cX2_difficulty 151 = .ok (.aload 7, 2) := dk_25 7 (dk_at dksX2_difficulty_6 11 rfl rfl)
theorem dX2_difficulty_153 : decode cX2_difficulty 153 = .ok (.astore 5, 2) := dk_58 5 (dk_at dksX2_difficulty_6 13 rfl rfl)
theorem dX2_difficulty_155 : decode cX2_difficulty 155 = .ok (.iinc 6 1, 3) := dk_132 6 1 (dk_at dksX2_difficulty_6 15 rfl rfl)
theorem dX2_difficulty_158 : decode cX2_difficulty 158 = .ok (.goto (-133), 3) := dk_167 255 123 (dk_at dksX2_difficulty_6 18 rfl rfl)
theorem dX2_difficulty_161 : decode cX2_difficulty 161 = .ok (.iconst 0, 1) := dk_3 (dk_at dksX2_difficulty_6 21 rfl rfl)
theorem dX2_difficulty_162 : decode cX2_difficulty 162 = .ok (.istore 6, 2) := dk_54 6 (dk_at dksX2_difficulty_6 22 rfl rfl)
theorem dX2_difficulty_164 : decode cX2_difficulty 164 = .ok (.iload 6, 2) := dk_21 6 (dk_at dksX2_difficulty_7 0 rfl rfl)
theorem dX2_difficulty_166 : decode cX2_difficulty 166 = .ok (.aload_n 3, 1) := dk_45 (dk_at dksX2_difficulty_7 2 rfl rfl)
theorem dX2_difficulty_167 : decode cX2_difficulty 167 = .ok (.invokevirtual 28, 3) := dk_182 0 28 (dk_at dksX2_difficulty_7 3 rfl rfl)
theorem dX2_difficulty_170 : decode cX2_difficulty 170 = .ok (.if_icmp .ge 43, 3) := dk_162 0 43 (dk_at dksX2_difficulty_7 6 rfl rfl)
theorem dX2_difficulty_173 : decode cX2_difficulty 173 = .ok (.iload 4, 2) := dk_21 4 (dk_at dksX2_difficulty_7 9 rfl rfl)
theorem dX2_difficulty_175 : decode cX2_difficulty 175 = .ok (.aload_n 3, 1) := dk_45 (dk_at dksX2_difficulty_7 11 rfl rfl)
theorem dX2_difficulty_176 : decode cX2_difficulty 176 = .ok (.iload 6, 2) := dk_21 6 (dk_at dksX2_difficulty_7 12 rfl rfl)
theorem dX2_difficulty_178 : decode cX2_difficulty 178 = .ok (.invokevirtual 32, 3) := dk_182 0 32 (dk_at dksX2_difficulty_7 14 rfl rfl)
theorem dX2_difficulty_181 : decode cX2_difficulty 181 = .ok (.checkcast 113, 3) := dk_192 0 113 (dk_at dksX2_difficulty_7 17 rfl rfl)
theorem dX2_difficulty_184 : decode cX2_difficulty 184 = .ok (.invokevirtual 118, 3) := dk_182 0 118 (dk_at dksX2_difficulty_7 20 rfl rfl)
theorem dX2_difficulty_187 : decode cX2_difficulty 187 = .ok (.aload_n 2, 1) := dk_44 (dk_at dksX2_difficulty_7 23 rfl rfl)
theorem dX2_difficulty_188 : decode cX2_difficulty 188 = .ok (.aload_n 3, 1) := dk_45 (dk_at dksX2_difficulty_8 0 rfl rfl)
theorem dX2_difficulty_189 : decode cX2_difficulty 189 = .ok (.iload 6, 2) := dk_21 6 (dk_at dksX2_difficulty_8 1 rfl rfl)
theorem dX2_difficulty_191 : decode cX2_difficulty 191 = .ok (.invokevirtual 32, 3) := dk_182 0 32 (dk_at dksX2_difficulty_8 3 rfl rfl)
theorem dX2_difficulty_194 : decode cX2_difficulty 194 = .ok (.invokevirtual 99, 3) := dk_182 0 99 (dk_at dksX2_difficulty_8 6 rfl rfl)
theorem dX2_difficulty_197 : decode cX2_difficulty 197 = .ok (.checkcast 102, 3) := dk_192 0 102 (dk_at dksX2_difficulty_8 9 rfl rfl)
theorem dX2_difficulty_200 : decode cX2_difficulty 200 = .ok (.getfield 109, 3) := dk_180 0 109 (dk_at dksX2_difficulty_8 12 rfl rfl)
theorem dX2_difficulty_203 : decode cX2_difficulty 203 = .ok (.imul, 1) := dk_104 (dk_at dksX2_difficulty_8 15 rfl rfl)
theorem dX2_difficulty_204 : decode cX2_difficulty 204 = .ok (.iadd, 1) := dk_96 (dk_at dksX2_difficulty_8 16 rfl rfl)
theorem dX2_difficulty_205 : decode cX2_difficulty 205 = .ok (.istore 4, 2) := dk_54 4 (dk_at dksX2_difficulty_8 17 rfl rfl)
theorem dX2_difficulty_207 : decode cX2_difficulty 207 = .ok (.iinc 6 1, 3) := dk_132 6 1 (dk_at dksX2_difficulty_8 19 rfl rfl)
theorem dX2_difficulty_210 : decode cX2_difficulty 210 = .ok (.goto (-46), 3) := dk_167 255 210 (dk_at dksX2_difficulty_9 0 rfl rfl)
theorem dX2_difficulty_213 : decode cX2_difficulty 213 = .ok (.iload 4, 2) := dk_21 4 (dk_at dksX2_difficulty_9 3 rfl rfl)
theorem dX2_difficulty_215 : decode cX2_difficulty 215 = .ok (.ireturn, 1) := dk_172 (dk_at dksX2_difficulty_9 5 rfl rfl)
theorem dX1_difficulty_0 : decode cX1_difficulty 0 = .ok (.iload_n 1, 1) := dk_27 (dk_at dksX1_difficulty_0 0 rfl rfl)
theorem dX1_difficulty_1 : decode cX1_difficulty 1 = .ok (.i2l, 1) := dk_133 (dk_at dksX1_difficulty_0 1 rfl rfl)
theorem dX1_difficulty_2 : decode cX1_difficulty 2 = .ok (.lconst 0, 1) := dk_9 (dk_at dksX1_difficulty_0 2 rfl rfl)
theorem dX1_difficulty_3 : decode cX1_difficulty 3 = .ok (.ldc2_w 299, 3) := dk_20 1 43 (dk_at dksX1_difficulty_0 3 rfl rfl)
theorem dX1_difficulty_6 : decode cX1_difficulty 6 = .ok (.invokestatic 56, 3) := dk_184 0 56 (dk_at dksX1_difficulty_0 6 rfl rfl)
theorem dX1_difficulty_9 : decode cX1_difficulty 9 = .ok (.invokestatic 140, 3) := dk_184 0 140 (dk_at dksX1_difficulty_0 9 rfl rfl)
theorem dX1_difficulty_12 : decode cX1_difficulty 12 = .ok (.aload_n 0, 1) := dk_42 (dk_at dksX1_difficulty_0 12 rfl rfl)
theorem dX1_difficulty_13 : decode cX1_difficulty 13 = .ok (.getfield 31, 3) := dk_180 0 31 (dk_at dksX1_difficulty_0 13 rfl rfl)
theorem dX1_difficulty_16 : decode cX1_difficulty 16 = .ok (.iload_n 1, 1) := dk_27 (dk_at dksX1_difficulty_0 16 rfl rfl)
theorem dX1_difficulty_17 : decode cX1_difficulty 17 = .ok (.invokevirtual 301, 3) := dk_182 1 45 (dk_at dksX1_difficulty_0 17 rfl rfl)
theorem dX1_difficulty_20 : decode cX1_difficulty 20 = .ok (.ireturn, 1) := dk_172 (dk_at dksX1_difficulty_0 20 rfl rfl)
theorem dX1_bestCapo_0 : decode cX1_bestCapo 0 = .ok (.iconst 0, 1) := dk_3 (dk_at dksX1_bestCapo_0 0 rfl rfl)
theorem dX1_bestCapo_1 : decode cX1_bestCapo 1 = .ok (.istore_n 1, 1) := dk_60 (dk_at dksX1_bestCapo_0 1 rfl rfl)
theorem dX1_bestCapo_2 : decode cX1_bestCapo 2 = .ok (.aload_n 0, 1) := dk_42 (dk_at dksX1_bestCapo_0 2 rfl rfl)
theorem dX1_bestCapo_3 : decode cX1_bestCapo 3 = .ok (.getfield 31, 3) := dk_180 0 31 (dk_at dksX1_bestCapo_0 3 rfl rfl)
theorem dX1_bestCapo_6 : decode cX1_bestCapo 6 = .ok (.iconst 0, 1) := dk_3 (dk_at dksX1_bestCapo_0 6 rfl rfl)
theorem dX1_bestCapo_7 : decode cX1_bestCapo 7 = .ok (.invokevirtual 301, 3) := dk_182 1 45 (dk_at dksX1_bestCapo_0 7 rfl rfl)
theorem dX1_bestCapo_10 : decode cX1_bestCapo 10 = .ok (.istore_n 2, 1) := dk_61 (dk_at dksX1_bestCapo_0 10 rfl rfl)
theorem dX1_bestCapo_11 : decode cX1_bestCapo 11 = .ok (.iconst 1, 1) := dk_4 (dk_at dksX1_bestCapo_0 11 rfl rfl)
theorem dX1_bestCapo_12 : decode cX1_bestCapo 12 = .ok (.istore_n 3, 1) := dk_62 (dk_at dksX1_bestCapo_0 12 rfl rfl)
theorem dX1_bestCapo_13 : decode cX1_bestCapo 13 = .ok (.iload_n 3, 1) := dk_29 (dk_at dksX1_bestCapo_0 13 rfl rfl)
theorem dX1_bestCapo_14 : decode cX1_bestCapo 14 = .ok (.bipush 7, 2) := dk_16 7 (dk_at dksX1_bestCapo_0 14 rfl rfl)
theorem dX1_bestCapo_16 : decode cX1_bestCapo 16 = .ok (.if_icmp .gt 38, 3) := dk_163 0 38 (dk_at dksX1_bestCapo_0 16 rfl rfl)
theorem dX1_bestCapo_19 : decode cX1_bestCapo 19 = .ok (.aload_n 0, 1) := dk_42 (dk_at dksX1_bestCapo_0 19 rfl rfl)
theorem dX1_bestCapo_20 : decode cX1_bestCapo 20 = .ok (.getfield 31, 3) := dk_180 0 31 (dk_at dksX1_bestCapo_0 20 rfl rfl)
theorem dX1_bestCapo_23 : decode cX1_bestCapo 23 = .ok (.iload_n 3, 1) := dk_29 (dk_at dksX1_bestCapo_0 23 rfl rfl)
theorem dX1_bestCapo_24 : decode cX1_bestCapo 24 = .ok (.invokevirtual 301, 3) := dk_182 1 45 (dk_at dksX1_bestCapo_1 0 rfl rfl)
theorem dX1_bestCapo_27 : decode cX1_bestCapo 27 = .ok (.istore 4, 2) := dk_54 4 (dk_at dksX1_bestCapo_1 3 rfl rfl)
theorem dX1_bestCapo_29 : decode cX1_bestCapo 29 = .ok (.iload 4, 2) := dk_21 4 (dk_at dksX1_bestCapo_1 5 rfl rfl)
theorem dX1_bestCapo_31 : decode cX1_bestCapo 31 = .ok (.iload_n 2, 1) := dk_28 (dk_at dksX1_bestCapo_1 7 rfl rfl)
theorem dX1_bestCapo_32 : decode cX1_bestCapo 32 = .ok (.if_icmp .ge 7, 3) := dk_162 0 7 (dk_at dksX1_bestCapo_1 8 rfl rfl)
theorem dX1_bestCapo_35 : decode cX1_bestCapo 35 = .ok (.iload_n 3, 1) := dk_29 (dk_at dksX1_bestCapo_1 11 rfl rfl)
theorem dX1_bestCapo_36 : decode cX1_bestCapo 36 = .ok (.goto 4, 3) := dk_167 0 4 (dk_at dksX1_bestCapo_1 12 rfl rfl)
theorem dX1_bestCapo_39 : decode cX1_bestCapo 39 = .ok (.iload_n 1, 1) := dk_27 (dk_at dksX1_bestCapo_1 15 rfl rfl)
theorem dX1_bestCapo_40 : decode cX1_bestCapo 40 = .ok (.istore_n 1, 1) := dk_60 (dk_at dksX1_bestCapo_1 16 rfl rfl)
theorem dX1_bestCapo_41 : decode cX1_bestCapo 41 = .ok (.iload_n 2, 1) := dk_28 (dk_at dksX1_bestCapo_1 17 rfl rfl)
theorem dX1_bestCapo_42 : decode cX1_bestCapo 42 = .ok (.iload 4, 2) := dk_21 4 (dk_at dksX1_bestCapo_1 18 rfl rfl)
theorem dX1_bestCapo_44 : decode cX1_bestCapo 44 = .ok (.invokestatic 304, 3) := dk_184 1 48 (dk_at dksX1_bestCapo_1 20 rfl rfl)
theorem dX1_bestCapo_47 : decode cX1_bestCapo 47 = .ok (.istore_n 2, 1) := dk_61 (dk_at dksX1_bestCapo_1 23 rfl rfl)
theorem dX1_bestCapo_48 : decode cX1_bestCapo 48 = .ok (.iinc 3 1, 3) := dk_132 3 1 (dk_at dksX1_bestCapo_2 0 rfl rfl)
theorem dX1_bestCapo_51 : decode cX1_bestCapo 51 = .ok (.goto (-38), 3) := dk_167 255 218 (dk_at dksX1_bestCapo_2 3 rfl rfl)
theorem dX1_bestCapo_54 : decode cX1_bestCapo 54 = .ok (.iload_n 1, 1) := dk_27 (dk_at dksX1_bestCapo_2 6 rfl rfl)
theorem dX1_bestCapo_55 : decode cX1_bestCapo 55 = .ok (.ireturn, 1) := dk_172 (dk_at dksX1_bestCapo_2 7 rfl rfl)
theorem q102 : (Jvm.Cond.initialized "ChordSheet$Tally") ∈ lw_all := lw_g (lw_at lw_m1 40 rfl) rfl
theorem q1074 : (Jvm.Cond.methodLink "ChordSheet" (301 : Nat) ({ cls := "ChordSheet$Sheet", name := "difficulty", desc := "(I)I" } : Jvm.MethodName)) ∈ lw_all := lw_g (lw_at lw_m5 52 rfl) rfl
theorem q1075 : (Jvm.Cond.instanceMethod ({ cls := "ChordSheet$Sheet", name := "difficulty", desc := "(I)I" } : Jvm.MethodName)) ∈ lw_all := lw_g (lw_at lw_m5 53 rfl) rfl
theorem q1076 : (Jvm.Cond.selects "ChordSheet$Sheet" ({ cls := "ChordSheet$Sheet", name := "difficulty", desc := "(I)I" } : Jvm.MethodName) ({ cls := "ChordSheet$Sheet", name := "difficulty", desc := "(I)I" } : Jvm.MethodName)) ∈ lw_all := lw_g (lw_at lw_m5 54 rfl) rfl
theorem q1077 : (Jvm.Cond.code ({ cls := "ChordSheet$Sheet", name := "difficulty", desc := "(I)I" } : Jvm.MethodName) prog_7_method_7_code (9 : Nat) (Option.some Jvm.ClassFile.FieldType.int)) ∈ lw_all := lw_g (lw_at lw_m5 55 rfl) rfl
theorem q1078 : (Jvm.Cond.classLink "ChordSheet$Sheet" (92 : Nat) "java/util/HashMap") ∈ lw_all := lw_g (lw_at lw_m5 56 rfl) rfl
theorem q1079 : (Jvm.Cond.instantiable "java/util/HashMap" (8 : Nat)) ∈ lw_all := lw_g (lw_at lw_m5 57 rfl) rfl
theorem q1080 : (Jvm.Cond.methodLink "ChordSheet$Sheet" (94 : Nat) ({ cls := "java/util/HashMap", name := "<init>", desc := "()V" } : Jvm.MethodName)) ∈ lw_all := lw_g (lw_at lw_m5 58 rfl) rfl
theorem q1081 : (Jvm.Cond.instanceMethod ({ cls := "java/util/HashMap", name := "<init>", desc := "()V" } : Jvm.MethodName)) ∈ lw_all := lw_g (lw_at lw_m5 59 rfl) rfl
theorem q1082 : (Jvm.Cond.code ({ cls := "java/util/HashMap", name := "<init>", desc := "()V" } : Jvm.MethodName) prog_48_method_7_code (1 : Nat) (Option.none : Option Jvm.ClassFile.FieldType)) ∈ lw_all := lw_g (lw_at lw_m5 60 rfl) rfl
theorem q1110 : (Jvm.Cond.methodLink "ChordSheet$Sheet" (95 : Nat) ({ cls := "ChordSheet$Chord", name := "shape", desc := "(I)LChordSheet$Shape;" } : Jvm.MethodName)) ∈ lw_all := lw_g (lw_at lw_m5 88 rfl) rfl
theorem q1111 : (Jvm.Cond.instanceMethod ({ cls := "ChordSheet$Chord", name := "shape", desc := "(I)LChordSheet$Shape;" } : Jvm.MethodName)) ∈ lw_all := lw_g (lw_at lw_m5 89 rfl) rfl
theorem q1112 : (Jvm.Cond.selects "ChordSheet$Chord" ({ cls := "ChordSheet$Chord", name := "shape", desc := "(I)LChordSheet$Shape;" } : Jvm.MethodName) ({ cls := "ChordSheet$Chord", name := "shape", desc := "(I)LChordSheet$Shape;" } : Jvm.MethodName)) ∈ lw_all := lw_g (lw_at lw_m5 90 rfl) rfl
theorem q1113 : (Jvm.Cond.code ({ cls := "ChordSheet$Chord", name := "shape", desc := "(I)LChordSheet$Shape;" } : Jvm.MethodName) prog_2_method_6_code (3 : Nat) (Option.some (Jvm.ClassFile.FieldType.object "ChordSheet$Shape"))) ∈ lw_all := lw_g (lw_at lw_m5 91 rfl) rfl
theorem q1123 : (Jvm.Cond.fieldLinkNest "ChordSheet$Sheet" (117 : Nat) "ChordSheet$Shape" "root" "I" "ChordSheet") ∈ lw_tbl := lw_at lw_m5 101 rfl
theorem q1133 : (Jvm.Cond.methodLink "ChordSheet$Sheet" (99 : Nat) ({ cls := "java/util/HashMap", name := "get", desc := "(Ljava/lang/Object;)Ljava/lang/Object;" } : Jvm.MethodName)) ∈ lw_all := lw_g (lw_at lw_m5 111 rfl) rfl
theorem q1134 : (Jvm.Cond.instanceMethod ({ cls := "java/util/HashMap", name := "get", desc := "(Ljava/lang/Object;)Ljava/lang/Object;" } : Jvm.MethodName)) ∈ lw_all := lw_g (lw_at lw_m5 112 rfl) rfl
theorem q1135 : (Jvm.Cond.selects "java/util/HashMap" ({ cls := "java/util/HashMap", name := "get", desc := "(Ljava/lang/Object;)Ljava/lang/Object;" } : Jvm.MethodName) ({ cls := "java/util/HashMap", name := "get", desc := "(Ljava/lang/Object;)Ljava/lang/Object;" } : Jvm.MethodName)) ∈ lw_all := lw_g (lw_at lw_m5 113 rfl) rfl
theorem q1136 : (Jvm.Cond.code ({ cls := "java/util/HashMap", name := "get", desc := "(Ljava/lang/Object;)Ljava/lang/Object;" } : Jvm.MethodName) prog_48_method_12_code (3 : Nat) (Option.some (Jvm.ClassFile.FieldType.object "java/lang/Object"))) ∈ lw_all := lw_g (lw_at lw_m5 114 rfl) rfl
theorem q1461 : (Jvm.Cond.classLink "ChordSheet$Sheet" (102 : Nat) "ChordSheet$Tally") ∈ lw_all := lw_g (lw_at lw_m6 199 rfl) rfl
theorem q1462 : (Jvm.Cond.instantiable "ChordSheet$Tally" (1 : Nat)) ∈ lw_all := lw_g (lw_at lw_m6 200 rfl) rfl
theorem q1463 : (Jvm.Cond.methodLinkNest "ChordSheet$Sheet" (104 : Nat) ({ cls := "ChordSheet$Tally", name := "<init>", desc := "()V" } : Jvm.MethodName) "ChordSheet") ∈ lw_tbl := lw_at lw_m6 201 rfl
theorem q1464 : (Jvm.Cond.instanceMethod ({ cls := "ChordSheet$Tally", name := "<init>", desc := "()V" } : Jvm.MethodName)) ∈ lw_all := lw_g (lw_at lw_m6 202 rfl) rfl
theorem q1465 : (Jvm.Cond.code ({ cls := "ChordSheet$Tally", name := "<init>", desc := "()V" } : Jvm.MethodName) prog_8_method_1_code (1 : Nat) (Option.none : Option Jvm.ClassFile.FieldType)) ∈ lw_all := lw_g (lw_at lw_m6 203 rfl) rfl
theorem q1467 : (Jvm.Cond.fieldLinkNest "ChordSheet$Sheet" (109 : Nat) "ChordSheet$Tally" "count" "I" "ChordSheet") ∈ lw_tbl := lw_at lw_m6 205 rfl
theorem q1471 : (Jvm.Cond.methodLink "ChordSheet$Sheet" (105 : Nat) ({ cls := "java/util/HashMap", name := "put", desc := "(Ljava/lang/Object;Ljava/lang/Object;)Ljava/lang/Object;" } : Jvm.MethodName)) ∈ lw_all := lw_g (lw_at lw_m6 209 rfl) rfl
theorem q1472 : (Jvm.Cond.instanceMethod ({ cls := "java/util/HashMap", name := "put", desc := "(Ljava/lang/Object;Ljava/lang/Object;)Ljava/lang/Object;" } : Jvm.MethodName)) ∈ lw_all := lw_g (lw_at lw_m6 210 rfl) rfl
theorem q1473 : (Jvm.Cond.selects "java/util/HashMap" ({ cls := "java/util/HashMap", name := "put", desc := "(Ljava/lang/Object;Ljava/lang/Object;)Ljava/lang/Object;" } : Jvm.MethodName) ({ cls := "java/util/HashMap", name := "put", desc := "(Ljava/lang/Object;Ljava/lang/Object;)Ljava/lang/Object;" } : Jvm.MethodName)) ∈ lw_all := lw_g (lw_at lw_m6 211 rfl) rfl
theorem q1474 : (Jvm.Cond.code ({ cls := "java/util/HashMap", name := "put", desc := "(Ljava/lang/Object;Ljava/lang/Object;)Ljava/lang/Object;" } : Jvm.MethodName) prog_48_method_15_code (3 : Nat) (Option.some (Jvm.ClassFile.FieldType.object "java/lang/Object"))) ∈ lw_all := lw_g (lw_at lw_m6 212 rfl) rfl
theorem q1475 : (Jvm.Cond.methodLink "java/util/HashMap" (152 : Nat) ({ cls := "java/util/HashMap", name := "putVal", desc := "(ILjava/lang/Object;Ljava/lang/Object;ZZ)Ljava/lang/Object;" } : Jvm.MethodName)) ∈ lw_all := lw_g (lw_at lw_m6 213 rfl) rfl
theorem q1476 : (Jvm.Cond.instanceMethod ({ cls := "java/util/HashMap", name := "putVal", desc := "(ILjava/lang/Object;Ljava/lang/Object;ZZ)Ljava/lang/Object;" } : Jvm.MethodName)) ∈ lw_all := lw_g (lw_at lw_m6 214 rfl) rfl
theorem q1477 : (Jvm.Cond.selects "java/util/HashMap" ({ cls := "java/util/HashMap", name := "putVal", desc := "(ILjava/lang/Object;Ljava/lang/Object;ZZ)Ljava/lang/Object;" } : Jvm.MethodName) ({ cls := "java/util/HashMap", name := "putVal", desc := "(ILjava/lang/Object;Ljava/lang/Object;ZZ)Ljava/lang/Object;" } : Jvm.MethodName)) ∈ lw_all := lw_g (lw_at lw_m6 215 rfl) rfl
theorem q1478 : (Jvm.Cond.code ({ cls := "java/util/HashMap", name := "putVal", desc := "(ILjava/lang/Object;Ljava/lang/Object;ZZ)Ljava/lang/Object;" } : Jvm.MethodName) prog_48_method_16_code (13 : Nat) (Option.some (Jvm.ClassFile.FieldType.object "java/lang/Object"))) ∈ lw_all := lw_g (lw_at lw_m6 216 rfl) rfl
theorem q1611 : (Jvm.Cond.methodLink "ChordSheet$Sheet" (112 : Nat) ({ cls := "ChordSheet$Shape", name := "isEasy", desc := "()Z" } : Jvm.MethodName)) ∈ lw_all := lw_g (lw_at lw_m7 109 rfl) rfl
theorem q1621 : (Jvm.Cond.classLink "ChordSheet$Sheet" (113 : Nat) "ChordSheet$Shape") ∈ lw_all := lw_g (lw_at lw_m7 119 rfl) rfl
theorem q1622 : (Jvm.Cond.methodLink "ChordSheet$Sheet" (118 : Nat) ({ cls := "ChordSheet$Shape", name := "difficulty", desc := "()I" } : Jvm.MethodName)) ∈ lw_all := lw_g (lw_at lw_m7 120 rfl) rfl
theorem q1623 : (Jvm.Cond.instanceMethod ({ cls := "ChordSheet$Shape", name := "difficulty", desc := "()I" } : Jvm.MethodName)) ∈ lw_all := lw_g (lw_at lw_m7 121 rfl) rfl
theorem q1624 : (Jvm.Cond.selects "ChordSheet$Shape" ({ cls := "ChordSheet$Shape", name := "difficulty", desc := "()I" } : Jvm.MethodName) ({ cls := "ChordSheet$Shape", name := "difficulty", desc := "()I" } : Jvm.MethodName)) ∈ lw_all := lw_g (lw_at lw_m7 122 rfl) rfl
theorem q1625 : (Jvm.Cond.code ({ cls := "ChordSheet$Shape", name := "difficulty", desc := "()I" } : Jvm.MethodName) prog_6_method_3_code (1 : Nat) (Option.some Jvm.ClassFile.FieldType.int)) ∈ lw_all := lw_g (lw_at lw_m7 123 rfl) rfl
theorem q1627 : (Jvm.Cond.methodLink "ChordSheet" (304 : Nat) ({ cls := "java/lang/Math", name := "min", desc := "(II)I" } : Jvm.MethodName)) ∈ lw_all := lw_g (lw_at lw_m7 125 rfl) rfl
theorem q1941 : (Jvm.Cond.constantLong "ChordSheet" (299 : Nat) (7 : Int64)) ∈ lw_all := lw_g (lw_at lw_m8 199 rfl) rfl
theorem q2514 : (Jvm.Cond.castable "ChordSheet$Shape" "java/lang/Object") ∈ lw_tbl := lw_at lw_m11 52 rfl
theorem mLt.zk {h H : zH} {S S2 : List Nat} (l : mLt h H S S2) (p : mKp h H) : zkeep h H S := by
  intro q x e n
  rcases n with n | n
  · exact p q x e (Or.inl n)
  · have h1 := l (fun q => if q ∈ S then none else h q) (fun q x e _ => by
      simp only at e
      split at e
      · cases e
      · exact e) (fun q hq => if_pos hq)
    exact h1.1 q x (by simp only; rw [if_neg n]; exact e) (Or.inr List.not_mem_nil)
theorem mpA.nin {h : zH} {m tb cap q : Nat} {es : List zEn} {sz : Int} {lf : Value} {x : Bool × zE} (hm : mpA h m tb cap es sz lf) (e : h q = some x) (hx : ¬ mkd x.2) : q ∉ mFp m tb es := fun z => by
  obtain ⟨y, hy, hk⟩ := hm.kd q z
  rw [e] at hy
  cases hy
  exact hx hk
theorem nmk_o {ci : Nat} {fs : List Value} (h1 : ci ≠ 14) (h2 : ci ≠ 15) : ¬ mkd (.inr (ci, fs)) := fun z => (show ci = 14 ∨ ci = 15 from z).elim h1 h2
theorem nmk_a {ty : FieldType} {n : Nat} {f : Nat → Value} (h1 : ty ≠ .object "java/util/HashMap$Node") : ¬ mkd (.inl (ty, n, f)) := fun z => h1 z
theorem mpA.keep {h h1 : zH} {m tb cap : Nat} {es : List zEn} {sz : Int} {lf : Value} {S : List Nat} (hm : mpA h m tb cap es sz lf) (k : zkeep h h1 S) (hS : ∀ q ∈ S, ∃ x, h q = some x ∧ ¬ mkd x.2) : mpA h1 m tb cap es sz lf := by
  have hn : ∀ q ∈ mFp m tb es, q ∉ S := fun q hq z => by
    obtain ⟨x, hx, hk⟩ := hS q z
    exact hm.nin hx hk hq
  obtain ⟨⟨mc, f, h1', h2, h3⟩, h4, h5, h6, h7⟩ := hm
  exact ⟨⟨mc, f, k.n h1' (hn m (by simp [mFp])), k.n h2 (hn tb (by simp [mFp])), fun i hi => (h3 i hi).keep k fun e he => hn _ (by unfold mFp; exact List.mem_cons_of_mem _ (List.mem_cons_of_mem _ (List.mem_map_of_mem (bin_m he).1)))⟩, h4, h5, h6, fun e he => (h7 e he).keep k⟩
/-- how often: the tallies of the entries -/
def tyA (g : zH) : List zEn → List Int → Prop
  | [], [] => True
  | e :: r, n :: t => g e.v = some (true, .inr (8, [.int (iI n)])) ∧ tyA g r t
  | _, _ => False
theorem tyA.keep {g g1 : zH} {S : List Nat} (k : zkeep g g1 S) (hS : ∀ q ∈ S, ∀ x, g q ≠ some (true, .inr (8, [.int x]))) : ∀ {es : List zEn} {ct : List Int}, tyA g es ct → tyA g1 es ct := by
  intro es
  induction es with
  | nil => intro ct h; cases ct with
    | nil => trivial
    | cons n t => exact h
  | cons e r ih => intro ct h; cases ct with
    | nil => exact h
    | cons n t => exact ⟨k.n h.1 (fun z => hS _ z _ h.1), ih h.2⟩
theorem tyA.app {g : zH} {e : zEn} {n : Int} (h1 : g e.v = some (true, .inr (8, [.int (iI n)]))) : ∀ {es : List zEn} {ct : List Int}, tyA g es ct → tyA g (es ++ [e]) (ct ++ [n]) := by
  intro es
  induction es with
  | nil => intro ct h; cases ct with
    | nil => exact ⟨h1, trivial⟩
    | cons n t => exact h.elim
  | cons e r ih => intro ct h; cases ct with
    | nil => exact h.elim
    | cons n t => exact ⟨h.1, ih h.2⟩
/-- what all is worth: f of the code, so often -/
def swt : List zEn → List Int → Int
  | e :: r, n :: t => sdf (e.c / 20) (e.c / 2 % 10) (e.c % 2) * n + swt r t
  | _, _ => 0
theorem swt_app {e : zEn} : ∀ {es : List zEn} {ct : List Int} {g : zH}, tyA g es ct → swt (es ++ [e]) (ct ++ [0]) = swt es ct := by
  intro es
  induction es with
  | nil => intro ct g h; cases ct with
    | nil => simp [swt]
    | cons n t => exact h.elim
  | cons a r ih => intro ct g h; cases ct with
    | nil => exact h.elim
    | cons n t => simp only [List.cons_append, swt, ih h.2]
/-- one more of an entry -/
theorem tyA.up {g : zH} {e : zEn} : ∀ {es : List zEn} {ct : List Int}, tyA g es ct → e ∈ es → (es.map zEn.v).Nodup → ∃ n : Int, g e.v = some (true, .inr (8, [.int (iI n)])) ∧ ∀ g1 : zH, zkeep g g1 [e.v] → g1 e.v = some (true, .inr (8, [.int (iI (n + 1))])) → ∃ ct', tyA g1 es ct' ∧ swt es ct' = swt es ct + sdf (e.c / 20) (e.c / 2 % 10) (e.c % 2) := by
  intro es
  induction es with
  | nil => intro ct h he; cases he
  | cons a r ih =>
    intro ct h he hn
    cases ct with
    | nil => exact h.elim
    | cons n t =>
      rw [List.map_cons, List.nodup_cons] at hn
      by_cases q : a = e
      · subst q
        refine ⟨n, h.1, fun g1 k e1 => ⟨(n + 1) :: t, ⟨e1, ?_⟩, ?_⟩⟩
        · have h2 := h.2
          clear ih he
          have hn1 := hn.1
          clear hn h
          induction r generalizing t with
          | nil => cases t with
            | nil => trivial
            | cons n t => exact h2
          | cons b s ih2 => cases t with
            | nil => exact h2
            | cons n2 t =>
              rw [List.map_cons, List.mem_cons, not_or] at hn1
              exact ⟨k.n h2.1 (by simpa using Ne.symm hn1.1), ih2 _ h2.2 hn1.2⟩
        · simp only [swt]
          rw [Int.mul_add]
          omega
      · have hr : e ∈ r := (List.mem_cons.mp he).resolve_left fun z => q z.symm
        obtain ⟨n2, h3, h4⟩ := ih h.2 hr hn.2
        refine ⟨n2, h3, fun g1 k e1 => ?_⟩
        obtain ⟨ct', h5, h6⟩ := h4 g1 k e1
        refine ⟨n :: ct', ⟨k.n h.1 ?_, h5⟩, by simp only [swt]; omega⟩
        have : a.v ≠ e.v := fun z => hn.1 (by rw [z]; exact List.mem_map_of_mem hr)
        simpa using this
theorem tyA.get {g : zH} : ∀ {es : List zEn} {ct : List Int}, tyA g es ct → ∀ {j : Nat} {e : zEn}, es[j]? = some e → ∃ n : Int, g e.v = some (true, .inr (8, [.int (iI n)])) ∧ swt (es.drop j) (ct.drop j) = sdf (e.c / 20) (e.c / 2 % 10) (e.c % 2) * n + swt (es.drop (j + 1)) (ct.drop (j + 1)) := by
  intro es
  induction es with
  | nil => intro ct h j e he; simp at he
  | cons a r ih =>
    intro ct h j e he
    cases ct with
    | nil => exact h.elim
    | cons n t =>
      cases j with
      | zero =>
        simp at he
        subst he
        exact ⟨n, h.1, rfl⟩
      | succ j =>
        simp only [List.getElem?_cons_succ] at he
        exact ih h.2 he
def sdx (f : Int) (x : zCh) : Int := sdf (shr x.2.2.1 f) x.2.2.2.1 (shb x.2.2.1 x.2.2.2.2)
def trd (f : Int) (x y : zCh) : Int := if iez (shr x.2.2.1 f) x.2.2.2.1 = 0 ∧ iez (shr y.2.2.1 f) y.2.2.2.1 = 0 ∧ shr x.2.2.1 f ≠ shr y.2.2.1 f then 1 else 0
def trs (f : Int) : Option zCh → List zCh → Int
  | _, [] => 0
  | none, y :: r => trs f (some y) r
  | some x, y :: r => trd f x y + trs f (some y) r
def sds (f : Int) : List zCh → Int
  | [] => 0
  | x :: r => sdx f x + sds f r
/-- how hard a sheet is with a capo -/
def dif (f : Int) (cs : List zCh) : Int := f + trs f none cs + sds f cs
theorem scode_d {r q b : Int} (hr : 0 ≤ r ∧ r < 12) (hq : 0 ≤ q ∧ q ≤ 9) (hb : b = 0 ∨ b = 1) : sdf (scode r q b / 20) (scode r q b / 2 % 10) (scode r q b % 2) = sdf r q b := by
  have h1 : scode r q b / 20 = r := by unfold scode; omega
  have h2 : scode r q b / 2 % 10 = q := by unfold scode; omega
  have h3 : scode r q b % 2 = b := by unfold scode; omega
  rw [h1, h2, h3]
theorem eOK.one {h : zH} {es : List zEn} (ho : eOK h es) {e d : zEn} (he : e ∈ es) (hd : d ∈ es) (hc : e.c = d.c) : e = d := nodup_inj ho.2.1 he hd hc
theorem zpureK {h g : zH} {a b : Int} (k : zkeep h g []) (e : a = b) : zrt (fun w h' => w = some (.int (iI b)) ∧ zkeep h h' []) (.inl (some (.int (iI a)))) g := ⟨_, rfl, by rw [e], k⟩
def bcg (cs : List zCh) : Nat → Int → Int → Int → Int
  | 0, _, b, _ => b
  | n + 1, f, b, l => bcg cs n (f + 1) (if dif f cs < l then f else b) (min l (dif f cs))
/-- the best capo -/
def bcp (cs : List zCh) : Int := bcg cs 7 1 0 (dif 0 cs)
theorem sdf_r {r q b : Int} (hb : b = 0 ∨ b = 1) : 0 ≤ sdf r q b ∧ sdf r q b ≤ 6 := by unfold sdf; (repeat' split) <;> omega
theorem trs_r (f : Int) : ∀ (cs : List zCh) (l : Option zCh), 0 ≤ trs f l cs ∧ trs f l cs ≤ (cs.length : Nat) := by
  intro cs
  induction cs with
  | nil => intro l; simp [trs]
  | cons x r ih =>
    intro l
    have := ih (some x)
    cases l with
    | none => simp only [trs, List.length_cons]; omega
    | some y =>
      have h2 : trd f y x = 0 ∨ trd f y x = 1 := by unfold trd; split <;> omega
      simp only [trs, List.length_cons]; omega
theorem sds_r (f : Int) : ∀ (cs : List zCh), 0 ≤ sds f cs ∧ sds f cs ≤ 6 * (cs.length : Nat) := by
  intro cs
  induction cs with
  | nil => simp [sds]
  | cons x r ih =>
    have := sdf_r (r := shr x.2.2.1 f) (q := x.2.2.2.1) (shb_r x.2.2.1 x.2.2.2.2)
    simp only [sds, sdx, List.length_cons]; omega
theorem dif_r (f : Int) (cs : List zCh) : f ≤ dif f cs ∧ dif f cs ≤ f + 7 * (cs.length : Nat) := by
  have h1 := trs_r f cs none
  have h2 := sds_r f cs
  unfold dif; omega
set_option maxHeartbeats 4000000 in
theorem ct_M_put {l : Launch} (hl : l.stackTraces = false) {Γ : zCx} {h : zH} {m tb cap : Nat} {es : List zEn} {sz : Int} {lf : Value} (hm : mpA h m tb cap es sz lf) {k : Nat} {c : Int} (hk : kAt h k c) {v : Nat} (hab : ∀ e ∈ es, e.c ≠ c) (hz : sz = ((es.length : Nat) : Int) ∧ es.length ≤ 45)  : zMet l yJ25_put (ws_ yJ25_put cJ25_put 3 (some (.object "java/lang/Object"))) ({ frames := 4, cells := 3, slots := 132, locals := 93 }) Γ h [.ref m, .ref k, .ref v] (zrt (fun w h' => w = some .null ∧ ∃ n tb' cap', mpA h' m tb' cap' (es ++ [(n, k, v, c)]) (sz + 1) lf ∧ mLt h h' (mFp m tb es) (mFp m tb' (es ++ [(n, k, v, c)])) ∧ mKp h h')) 3 132 := by
  refine zMet.of (cc := cJ25_put) hl (plainFor_of_name (by decide +kernel)) (Nat.le_of_ble_eq_true rfl) ?_
  intro X hXl hXΓ hXp C hnm hnL
  have C : zC X cJ25_put RJ25 (some (.object "java/lang/Object")) 4 93 [] := C
  have hnL : X.2.1.2.2.2.2 = 3 := hnL
  subst hXl hXΓ
  show Z X h 3 132 [(0, .ref m), (1, .ref k), (2, .ref v)] 0 []
  obtain ⟨⟨mc, f, hmf, htb, hch⟩, hcap, hnd, hcd, hks⟩ := id hm
  obtain ⟨kr, kq, kb, hkf, hkr, hkq, hkb, hkc⟩ := id hk
  have hcr := hk.r
  refine z_aload_n (pc := 0) (j := 0) C dJ25_put_0 rfl rfl ?_
  refine z_aload_n (pc := 1) (j := 1) C dJ25_put_1 rfl rfl ?_
  refine z_callS (pc := 2) (n := 1) (kc' := 3) (ks' := 132) C (ct_M_hash C.t hk) (lw_S q1141 q1142 q97 q1143) (by decide +kernel) ⟨by decide, by decide⟩ rfl rfl (Nat.le_of_ble_eq_true rfl) dJ25_put_2 (by omega) (by omega) (zpk (st' := [.int (iI c), .ref m]) rfl ?_) zrx
  refine z_aload_n (pc := 5) (j := 1) C dJ25_put_5 rfl rfl ?_
  refine z_aload_n (pc := 6) (j := 2) C dJ25_put_6 rfl rfl ?_
  refine z_iconst (pc := 7) C dJ25_put_7 ?_
  refine z_iconst (pc := 8) C dJ25_put_8 ?_
  refine z_callV (pc := 9) (n := 5) (kc' := 0) (ks' := 0) C (ct_M_putVal C.t hm hk (v := v) hab hz) (lw_V q1475 q1476 q1477 q97 q1478) (by decide +kernel) ⟨by decide, by decide⟩ hmf rfl rfl rfl (Nat.le_of_ble_eq_true rfl) dJ25_put_9 (by omega) (by omega) (zrk fun w h1 hp => ?_) zrx
  obtain ⟨rfl, hpp⟩ := hp
  show Z X h1 0 0 [(0, .ref m), (1, .ref k), (2, .ref v)] 12 [.null]
  exact z_areturn (pc := 12) C (Or.inl ⟨_, rfl⟩) (Or.inl rfl) (by rw [hXp]; exact ⟨_, rfl, rfl, hpp⟩) dJ25_put_12
set_option maxHeartbeats 4000000 in
theorem ct_M_put0 {l : Launch} (hl : l.stackTraces = false) {Γ : zCx} {h : zH} {m : Nat} {lf : Value} (hm : mp0 h m lf) {k : Nat} {c : Int} (hk : kAt h k c) {v : Nat}  : zMet l yJ25_put (ws_ yJ25_put cJ25_put 3 (some (.object "java/lang/Object"))) ({ frames := 4, cells := 3, slots := 132, locals := 92 }) Γ h [.ref m, .ref k, .ref v] (zrt (fun w h' => w = some .null ∧ ∃ n tb' cap', mpA h' m tb' cap' [(n, k, v, c)] 1 lf ∧ mLt h h' [m] (mFp m tb' [(n, k, v, c)]) ∧ mKp h h')) 3 132 := by
  refine zMet.of (cc := cJ25_put) hl (plainFor_of_name (by decide +kernel)) (Nat.le_of_ble_eq_true rfl) ?_
  intro X hXl hXΓ hXp C hnm hnL
  have C : zC X cJ25_put RJ25 (some (.object "java/lang/Object")) 4 92 [] := C
  have hnL : X.2.1.2.2.2.2 = 3 := hnL
  subst hXl hXΓ
  show Z X h 3 132 [(0, .ref m), (1, .ref k), (2, .ref v)] 0 []
  have hmf : h m = _ := hm
  obtain ⟨kr, kq, kb, hkf, hkr, hkq, hkb, hkc⟩ := id hk
  have hcr := hk.r
  refine z_aload_n (pc := 0) (j := 0) C dJ25_put_0 rfl rfl ?_
  refine z_aload_n (pc := 1) (j := 1) C dJ25_put_1 rfl rfl ?_
  refine z_callS (pc := 2) (n := 1) (kc' := 3) (ks' := 132) C (ct_M_hash C.t hk) (lw_S q1141 q1142 q97 q1143) (by decide +kernel) ⟨by decide, by decide⟩ rfl rfl (Nat.le_of_ble_eq_true rfl) dJ25_put_2 (by omega) (by omega) (zpk (st' := [.int (iI c), .ref m]) rfl ?_) zrx
  refine z_aload_n (pc := 5) (j := 1) C dJ25_put_5 rfl rfl ?_
  refine z_aload_n (pc := 6) (j := 2) C dJ25_put_6 rfl rfl ?_
  refine z_iconst (pc := 7) C dJ25_put_7 ?_
  refine z_iconst (pc := 8) C dJ25_put_8 ?_
  refine z_callV (pc := 9) (n := 5) (kc' := 0) (ks' := 0) C (ct_M_putVal0 C.t hm hk (v := v)) (lw_V q1475 q1476 q1477 q97 q1478) (by decide +kernel) ⟨by decide, by decide⟩ hmf rfl rfl rfl (Nat.le_of_ble_eq_true rfl) dJ25_put_9 (by omega) (by omega) (zrk fun w h1 hp => ?_) zrx
  obtain ⟨rfl, hpp⟩ := hp
  show Z X h1 0 0 [(0, .ref m), (1, .ref k), (2, .ref v)] 12 [.null]
  exact z_areturn (pc := 12) C (Or.inl ⟨_, rfl⟩) (Or.inl rfl) (by rw [hXp]; exact ⟨_, rfl, rfl, hpp⟩) dJ25_put_12
set_option maxHeartbeats 4000000 in
theorem ct_Tal_init {l : Launch} (hl : l.stackTraces = false) {Γ : zCx} {h : zH} {m : Nat}  : zMet l yX9_init (ws_ yX9_init cX9_init 1 none) ({ frames := 1, cells := 0, slots := 0, locals := 12 }) Γ h [.ref m] (zpure h none) 0 0 := by
  refine zMet.of (cc := cX9_init) hl (plainFor_of_name (by decide +kernel)) (Nat.le_of_ble_eq_true rfl) ?_
  intro X hXl hXΓ hXp C hnm hnL
  have C : zC X cX9_init RX9 none 1 12 [] := C
  have hnL : X.2.1.2.2.2.2 = 1 := hnL
  subst hXl hXΓ
  show Z X h 0 0 [(0, .ref m)] 0 []
  refine z_aload_n (pc := 0) (j := 0) C dX9_init_0 rfl rfl ?_
  refine z_objInit (pc := 1) C q1466 q113 q114 (by decide) (by decide) dX9_init_1 ?_
  exact z_return (pc := 4) C (by rw [hXp]; exact zpure_v rfl rfl) dX9_init_4
set_option maxHeartbeats 4000000 in
theorem ct_S_dif {l : Launch} (hl : l.stackTraces = false) {Γ : zCx} {h : zH} {s lq cq e cap : Nat} {fs fq fe : Bool} {c7 mq : Value} {cs : List zCh} {f : Nat → Value} (hs : h s = some (fs, .inr (1, [.ref lq, .ref cq, c7]))) (hcq : h cq = some (fq, .inr (10, [mq, .ref e, .int (iI ((cs.length : Nat) : Int))]))) (he : h e = some (fe, .inl (.object "java/lang/Object", cap, f))) (hcl : clA h f cs) (hcn : cs.length ≤ cap ∧ cap ≤ 100000) (hrg : ∀ c ∈ cs, crg c) (hc40 : cs.length ≤ 40) {fr : Int} (hfr : 0 ≤ fr ∧ fr ≤ 7)  : zMet l yX2_difficulty (ws_ yX2_difficulty cX2_difficulty 9 (some .int)) ({ frames := 7, cells := 250, slots := 5800, locals := 152 }) Γ h [.ref s, .int (iI fr)] (zrt (fun w h' => w = some (.int (iI (dif fr cs))) ∧ zkeep h h' [])) 250 5800 := by
  refine zMet.of (cc := cX2_difficulty) hl (plainFor_of_name (by decide +kernel)) (Nat.le_of_ble_eq_true rfl) ?_
  intro X hXl hXΓ hXp C hnm hnL
  have C : zC X cX2_difficulty RX2 (some .int) 7 152 [] := C
  have hnL : X.2.1.2.2.2.2 = 9 := hnL
  subst hXl hXΓ
  show Z X h 250 5800 [(0, .ref s), (1, .int (iI fr))] 0 []
  refine z_new (pc := 0) (ci := 14) (kc' := 249) (ks' := 5792) (fs := [.null, .null, .null, .null, .int (iI 0), .int (iI 0), .int (iI 0), .float 0]) C in_J25 tyJ25 tyJ25_ok rfl q1078 q1079 q97 df_J25 (by omega) (by omega) dX2_difficulty_0 (fun a1 fa1 => ?_)
  refine Z.nm (fun h2 eh2 => ?_)
  have na1 : h a1 = none := fa1
  have kh2 : zkeep h h2 [] := by rw [eh2]; exact zkeep.born zkeep.rf fa1
  have fh2_0 : h2 a1 = some (true, .inr (14, [.null, .null, .null, .null, .int (iI 0), .int (iI 0), .int (iI 0), .float 0])) := zse eh2
  refine z_dup (pc := 3) C dX2_difficulty_3 rfl ?_
  refine z_callI (pc := 4) (n := 0) (kc' := 249) (ks' := 5792) C (ct_M_init C.t fh2_0) q1082 q97 q1080 q1081 rfl (by decide +kernel) ⟨by decide, by decide⟩ rfl rfl (Nat.le_of_ble_eq_true rfl) dX2_difficulty_4 (by omega) (by omega) (zrk fun w h3 hp => ?_) zrx
  obtain ⟨rfl, hmp, k4⟩ := hp
  have kh3 : zkeep h h3 [] := zkeep.loc kh2 k4 (zall_cons (Or.inl (Or.symm (Or.inr na1))) zall_nil)
  have hmpx : h3 a1 = some (true, .inr (14, [.null, .null, .null, .null, .int (iI 0), .int (iI 0), .int (iI 0), .float 1061158912])) := hmp
  show Z X h3 249 5792 [(0, .ref s), (1, .int (iI fr))] 7 [.ref a1]
  refine z_astore_n (pc := 7) (L' := [(2, .ref a1), (0, .ref s), (1, .int (iI fr))]) C dX2_difficulty_7 rfl (by rw [hnL]; decide) rfl ?_
  refine z_new (pc := 8) (ci := 10) (kc' := 248) (ks' := 5789) (fs := [.int (iI 0), .null, .int (iI 0)]) C in_J2 tyJ2 tyJ2_ok rfl q139 q140 q68 df_J2 (by omega) (by omega) dX2_difficulty_8 (fun a5 fa5 => ?_)
  refine Z.nm (fun h6 eh6 => ?_)
  have na5 : h a5 = none := kh3.none0 fa5 List.not_mem_nil
  have kh6 : zkeep h h6 [] := by rw [eh6]; exact zkeep.born kh3 fa5
  have fh6_0 : h6 a5 = some (true, .inr (10, [.int (iI 0), .null, .int (iI 0)])) := zse eh6
  have fh6_1 : h6 a1 = some (true, .inr (14, [.null, .null, .null, .null, .int (iI 0), .int (iI 0), .int (iI 0), .float 1061158912])) := zsn eh6 hmpx (zneF hmpx fa5)
  refine z_dup (pc := 11) C dX2_difficulty_11 rfl ?_
  refine z_callI (pc := 12) (n := 0) (kc' := 248) (ks' := 5789) C (ct_L_init C.t fh6_0) q143 q68 q141 q142 rfl (by decide +kernel) ⟨by decide, by decide⟩ rfl rfl (Nat.le_of_ble_eq_true rfl) dX2_difficulty_12 (by omega) (by omega) (zrk fun w h7 hp => ?_) zrx
  obtain ⟨rfl, hl8, k9⟩ := hp
  have kh7 : zkeep h h7 [] := zkeep.loc kh6 k9 (zall_cons (Or.inl (Or.symm (Or.inr na5))) zall_nil)
  have fh7_1 : h7 a1 = some (true, .inr (14, [.null, .null, .null, .null, .int (iI 0), .int (iI 0), .int (iI 0), .float 1061158912])) := k9.n fh6_1 (List.not_mem_cons_of_ne_of_not_mem (zneF hmpx fa5) List.not_mem_nil)
  have hx_10 := hl8
  obtain ⟨m_10, f_10, la_10, le_10, lz_10, lt_10, ln_10, lc_10, lx_10, lq_10⟩ := hx_10
  have le_10 : h7 (X.Γ.2.2.2 0) = some (false, .inl (.object "java/lang/Object", 0, f_10)) := le_10
  show Z X h7 248 5789 [(2, .ref a1), (0, .ref s), (1, .int (iI fr))] 15 [.ref a5]
  refine z_astore_n (pc := 15) (L' := [(3, .ref a5), (2, .ref a1), (0, .ref s), (1, .int (iI fr))]) C dX2_difficulty_15 rfl (by rw [hnL]; decide) rfl ?_
  refine z_iload_n (pc := 16) (j := 3) C dX2_difficulty_16 rfl rfl ?_
  refine z_istore (pc := 17) (L' := [(4, .int (iI fr)), (3, .ref a5), (2, .ref a1), (0, .ref s), (1, .int (iI fr))]) C dX2_difficulty_17 (by rw [hnL]; decide) rfl ?_
  refine z_null (pc := 19) C dX2_difficulty_19 ?_
  refine z_astoreN (pc := 20) (L' := [(5, .null), (4, .int (iI fr)), (3, .ref a5), (2, .ref a1), (0, .ref s), (1, .int (iI fr))]) C dX2_difficulty_20 (by rw [hnL]; decide) rfl ?_
  refine z_iconst (pc := 22) C dX2_difficulty_22 ?_
  refine z_istore (pc := 23) (L' := [(6, .int (iI 0)), (5, .null), (4, .int (iI fr)), (3, .ref a5), (2, .ref a1), (0, .ref s), (1, .int (iI fr))]) C dX2_difficulty_23 (by rw [hnL]; decide) rfl ?_
  have hmpK : mp0 h7 a1 (.float 1061158912) := fh7_1
  have hz2 : bLC 0 41 = 41 := rfl
  have hz5 : bLS 0 41 = 256 := rfl
  have loop25 : ∀ (n25 : Nat) (i : Int) (g : zH) (sm : Int) (lv : Value) (last : Option zCh) (es : List zEn) (ct : List Int) (tb : Nat) (cap0 : Nat) (u2 : Nat) (cap2 : Nat), (0 ≤ i ∧ i ≤ (cs.length : Nat)) → (zkeep h g []) → ((es = [] ∧ mp0 g a1 (.float 1061158912) ∧ lv = .null ∧ last = none) ∨ (mpA g a1 tb cap0 es ((es.length : Nat) : Int) (.float 1061158912) ∧ (∀ q ∈ mFp a1 tb es, h q = none) ∧ ∃ xL qL, last = some xL ∧ lv = .ref qL ∧ g qL = some (false, .inr (7, [.int (iI (shr xL.2.2.1 fr)), .int (iI xL.2.2.2.1), .int (iI (shb xL.2.2.1 xL.2.2.2.2))])) ∧ crg xL)) → (lAt X.Γ g a5 u2 (es.map zEn.k) cap2) → ((u2 ∈ ([] : List Nat) ∨ h u2 = none) ∨ cap2 = 0) → (tyA g es ct) → ((es.map zEn.v).Nodup) → (∀ e ∈ es, h e.v = none) → (sm + trs fr last (cs.drop i.toNat) = fr + trs fr none cs) → (swt es ct + sds fr (cs.drop i.toNat) = sds fr cs) → (((es.length : Nat) : Int) ≤ i) → (((cs.length : Nat) - i).toNat) = n25 → Z X g (5 * (40 - i.toNat) + bLC cap2 41) (136 * (40 - i.toNat) + bLS cap2 41) [(6, .int (iI i)), (5, lv), (4, .int (iI sm)), (3, .ref a5), (2, .ref a1), (1, .int (iI fr)), (0, .ref s)] 25 [] := by
    intro n25
    induction n25 using Nat.strongRecOn with
    | ind n25 ih25 =>
    intro i g sm lv last es ct tb cap0 u2 cap2 hi hkp hst hla hml hty hvn hvf hsm hsw hln hn25
    obtain ⟨hla1, hlm1, hln1⟩ : es.length ≤ 40 ∧ (es.map zEn.k).length = es.length ∧ True := ⟨by omega, by simp, trivial⟩
    rcases hst with ⟨hs1, hs2, hs3, hs4⟩ | ⟨hs1, hs2, xL, qL, hs3, hs4, hs5, hs6⟩
    · subst hs1 hs3 hs4
      have hs2 : g a1 = some (true, .inr (14, [.null, .null, .null, .null, .int (iI 0), .int (iI 0), .int (iI 0), .float 1061158912])) := hs2
      show Z X g (5 * (40 - i.toNat) + bLC cap2 41) (136 * (40 - i.toNat) + bLS cap2 41) [(6, .int (iI i)), (5, .null), (4, .int (iI sm)), (3, .ref a5), (2, .ref a1), (1, .int (iI fr)), (0, .ref s)] 25 []
      have hx_11 := hla
      obtain ⟨m_11, f_11, la_11, le_11, lz_11, lt_11, ln_11, lc_11, lx_11, lq_11⟩ := hx_11
      refine z_iload (pc := 25) (j := 0) C dX2_difficulty_25 rfl ?_
      refine z_aload_n (pc := 27) (j := 6) C dX2_difficulty_27 rfl rfl ?_
      refine z_getfield (pc := 28) (v := .ref cq) C in_X2 rfl 1 (by decide) q169 (fun _ z => z) (hkp.n hs List.not_mem_nil) rfl dX2_difficulty_28 ?_
      refine z_callV (pc := 31) (n := 0) (kc' := (5 * (40 - i.toNat) + bLC cap2 41)) (ks' := (136 * (40 - i.toNat) + bLS cap2 41)) C (ct_L_size C.t (hkp.n hcq List.not_mem_nil)) (lw_V q902 q367 q368 q68 q369) (by decide +kernel) ⟨by decide, by decide⟩ (hkp.n hcq List.not_mem_nil) rfl rfl rfl (Nat.le_of_ble_eq_true rfl) dX2_difficulty_31 (by omega) (by omega) (zpk (st' := [.int (iI ((cs.length : Nat) : Int)), .int (iI i)]) rfl ?_) zrx
      refine z_icmp_ge (pc := 34) (tgt := 161) C dX2_difficulty_34 (by decide) (by omega) (by omega) (fun c34 => ?_) (fun c34 => ?_)
      · refine z_iconst (pc := 161) C dX2_difficulty_161 ?_
        refine z_istore (pc := 162) (L' := [(6, .int (iI 0)), (5, .null), (4, .int (iI sm)), (3, .ref a5), (2, .ref a1), (1, .int (iI fr)), (0, .ref s)]) C dX2_difficulty_162 (by rw [hnL]; decide) rfl ?_
        refine z_iload (pc := 164) (j := 0) C dX2_difficulty_164 rfl ?_
        refine z_aload_n (pc := 166) (j := 3) C dX2_difficulty_166 rfl rfl ?_
        refine z_callV (pc := 167) (n := 0) (kc' := (5 * (40 - i.toNat) + bLC cap2 41)) (ks' := (136 * (40 - i.toNat) + bLS cap2 41)) C (ct_L_size C.t la_11) (lw_V q902 q367 q368 q68 q369) (by decide +kernel) ⟨by decide, by decide⟩ la_11 rfl rfl rfl (Nat.le_of_ble_eq_true rfl) dX2_difficulty_167 (by omega) (by omega) (zpk (st' := [.int (iI (((List.map zEn.k ([] : List zEn)).length : Nat) : Int)), .int (iI 0)]) rfl ?_) zrx
        refine z_icmp_ge (pc := 170) (tgt := 213) C dX2_difficulty_170 (by decide) (by decide) (by omega) (fun c170 => ?_) (fun c170 => by exfalso; simp at c170)
        refine z_iload (pc := 213) (j := 2) C dX2_difficulty_213 rfl ?_
        exact z_ireturn (pc := 215) C (by rw [hXp]; exact zpureK hkp (by rw [List.drop_of_length_le (by omega), trs] at hsm; rw [List.drop_of_length_le (by omega), sds] at hsw; simp only [swt] at hsw; unfold dif; omega)) dX2_difficulty_215
      · refine z_aload_n (pc := 37) (j := 6) C dX2_difficulty_37 rfl rfl ?_
        refine z_getfield (pc := 38) (v := .ref cq) C in_X2 rfl 1 (by decide) q169 (fun _ z => z) (hkp.n hs List.not_mem_nil) rfl dX2_difficulty_38 ?_
        refine z_iload (pc := 41) (j := 0) C dX2_difficulty_41 rfl ?_
        obtain ⟨c_12, hc_12⟩ : ∃ x, cs[(i).toNat]? = some x := ⟨_, List.getElem?_eq_getElem (by omega)⟩
        obtain ⟨q_12, hq_12, ha_12⟩ := (clA.keep hkp hcl) _ _ hc_12
        have hr_12 := hrg _ (List.mem_of_getElem? hc_12)
        have hr1_12 := hr_12.1
        have hr2_12 := hr_12.2.1
        have hr3_12 := hr_12.2.2.1
        have hr4_12 := hr_12.2.2.2.1
        have hr5_12 := hr_12.2.2.2.2
        have hds := drop_step hc_12 (by omega)
        have yq6 := shr_r c_12.2.2.1 fr
        have yq7 := shb_r c_12.2.2.1 c_12.2.2.2.2
        refine z_callV (pc := 43) (n := 1) (kc' := (5 * (40 - i.toNat) + bLC cap2 41)) (ks' := (136 * (40 - i.toNat) + bLS cap2 41)) C (ct_L_get C.t (hkp.n hcq List.not_mem_nil) (hkp.n he List.not_mem_nil) (i := i) (by omega) (by omega) hq_12) (lw_V q903 q904 q905 q68 q906) (by decide +kernel) ⟨by decide, by decide⟩ (hkp.n hcq List.not_mem_nil) rfl rfl rfl (Nat.le_of_ble_eq_true rfl) dX2_difficulty_43 (by omega) (by omega) (zpk (st' := [.ref q_12]) rfl ?_) zrx
        refine z_castS (pc := 46) C q915 rfl ha_12 dX2_difficulty_46 ?_
        refine z_iload_n (pc := 49) (j := 5) C dX2_difficulty_49 rfl rfl ?_
        refine z_callV (pc := 50) (n := 1) (kc' := (5 * (40 - i.toNat) + bLC cap2 41 - 1)) (ks' := (136 * (40 - i.toNat) + bLS cap2 41 - 3)) C (ct_C_shape C.t (f := fr) ha_12 (by omega) (by omega) (by omega)) (lw_V q1110 q1111 q1112 q89 q1113) (by decide +kernel) ⟨by decide, by decide⟩ ha_12 rfl rfl rfl (Nat.le_of_ble_eq_true rfl) dX2_difficulty_50 (by omega) (by omega) (zrk fun w h14 hp => ?_) zrx
        obtain ⟨a13, rfl, fka13, fa13, k15⟩ := hp
        have na13 : h a13 = none := hkp.none0 fa13 List.not_mem_nil
        have kh14 : zkeep h h14 [] := zkeep.loc hkp k15 zall_nil
        have fh14_1 : h14 a1 = some (true, .inr (14, [.null, .null, .null, .null, .int (iI 0), .int (iI 0), .int (iI 0), .float 1061158912])) := k15.n hs2 List.not_mem_nil
        have fh14_2 : h14 a5 = some (true, .inr (10, [.int (iI m_11), .ref u2, .int (iI (((List.map zEn.k ([] : List zEn)).length : Nat) : Int))])) := k15.n la_11 List.not_mem_nil
        have fh14_3 : h14 u2 = some ((decide (cap2 ≠ 0)), .inl ((.object "java/lang/Object"), cap2, f_11)) := k15.n le_11 List.not_mem_nil
        have fh14_4 : h14 q_12 = some (false, .inr (6, [.int (iI c_12.1), .int (iI c_12.2.1), .int (iI c_12.2.2.1), .int (iI c_12.2.2.2.1), .int (iI c_12.2.2.2.2)])) := k15.f ha_12
        have ph14_1 : ∀ q ∈ List.map zEn.k ([] : List zEn), zel h14 q := zels.keep k15 lq_11
        have ph14_2 : tyA h14 ([] : List zEn) ct := tyA.keep k15 zall_nil hty
        show Z X h14 (5 * (40 - i.toNat) + bLC cap2 41 - 1) (136 * (40 - i.toNat) + bLS cap2 41 - 3) [(6, .int (iI i)), (5, .null), (4, .int (iI sm)), (3, .ref a5), (2, .ref a1), (1, .int (iI fr)), (0, .ref s)] 53 [.ref a13]
        refine z_astore (pc := 53) (L' := [(7, .ref a13), (6, .int (iI i)), (5, .null), (4, .int (iI sm)), (3, .ref a5), (2, .ref a1), (1, .int (iI fr)), (0, .ref s)]) C dX2_difficulty_53 (by rw [hnL]; decide) rfl ?_
        have hk7 : kAt h14 a13 (scode (shr c_12.2.2.1 fr) c_12.2.2.2.1 (shb c_12.2.2.1 c_12.2.2.2.2)) := ⟨_, _, _, fka13, yq6, hr4_12, yq7, rfl⟩
        refine z_aload_n (pc := 55) (j := 5) C dX2_difficulty_55 rfl rfl ?_
        refine z_aload (pc := 56) (j := 0) C dX2_difficulty_56 rfl ?_
        refine z_callV (pc := 58) (n := 1) (kc' := (5 * (40 - i.toNat) + bLC cap2 41 - 1)) (ks' := (136 * (40 - i.toNat) + bLS cap2 41 - 3)) C (ct_M_get0 C.t fh14_1 (k := a13)) (lw_V q1133 q1134 q1135 q97 q1136) (by decide +kernel) ⟨by decide, by decide⟩ fh14_1 rfl rfl rfl (Nat.le_of_ble_eq_true rfl) dX2_difficulty_58 (by omega) (by omega) (zpk (st' := [.null]) rfl ?_) zrx
        refine z_castN (pc := 61) C dX2_difficulty_61 ?_
        refine z_astoreN (pc := 64) (L' := [(8, .null), (7, .ref a13), (6, .int (iI i)), (5, .null), (4, .int (iI sm)), (3, .ref a5), (2, .ref a1), (1, .int (iI fr)), (0, .ref s)]) C dX2_difficulty_64 (by rw [hnL]; decide) rfl ?_
        refine z_aloadN (pc := 66) (j := 0) C dX2_difficulty_66 rfl ?_
        refine z_ifnonnullN (pc := 68) C dX2_difficulty_68 ?_
        refine z_new (pc := 71) (ci := 8) (kc' := ((5 * (40 - i.toNat) + bLC cap2 41 - 1) - 1)) (ks' := ((136 * (40 - i.toNat) + bLS cap2 41 - 3) - 1)) (fs := [.int (iI 0)]) C in_X9 tyX9 tyX9_ok rfl q1461 q1462 q102 df_X9 (by omega) (by omega) dX2_difficulty_71 (fun a16 fa16 => ?_)
        refine Z.nm (fun h17 eh17 => ?_)
        have na16 : h a16 = none := kh14.none0 fa16 List.not_mem_nil
        have kh17 : zkeep h h17 [] := by rw [eh17]; exact zkeep.born kh14 fa16
        have fh17_0 : h17 a16 = some (true, .inr (8, [.int (iI 0)])) := zse eh17
        have fh17_1 : h17 a1 = some (true, .inr (14, [.null, .null, .null, .null, .int (iI 0), .int (iI 0), .int (iI 0), .float 1061158912])) := zsn eh17 fh14_1 (zneF fh14_1 fa16)
        have fh17_2 : h17 a5 = some (true, .inr (10, [.int (iI m_11), .ref u2, .int (iI (((List.map zEn.k ([] : List zEn)).length : Nat) : Int))])) := zsn eh17 fh14_2 (zneF fh14_2 fa16)
        have fh17_3 : h17 u2 = some ((decide (cap2 ≠ 0)), .inl ((.object "java/lang/Object"), cap2, f_11)) := zsn eh17 fh14_3 (zneF fh14_3 fa16)
        have fh17_4 : h17 q_12 = some (false, .inr (6, [.int (iI c_12.1), .int (iI c_12.2.1), .int (iI c_12.2.2.1), .int (iI c_12.2.2.2.1), .int (iI c_12.2.2.2.2)])) := zsn eh17 fh14_4 (zneF fh14_4 fa16)
        have fh17_5 : h17 a13 = some (false, .inr (7, [.int (iI (shr c_12.2.2.1 fr)), .int (iI c_12.2.2.2.1), .int (iI (shb c_12.2.2.1 c_12.2.2.2.2))])) := zsn eh17 fka13 (zneF fka13 fa16)
        have sh17 : zkeep h14 h17 [] := zkeep.one0 eh17 fa16
        have ph17_1 : ∀ q ∈ List.map zEn.k ([] : List zEn), zel h17 q := zels.keep sh17 ph14_1
        have ph17_2 : tyA h17 ([] : List zEn) ct := tyA.keep sh17 zall_nil ph14_2
        have ph17_3 : kAt h17 a13 (scode (shr c_12.2.2.1 fr) c_12.2.2.2.1 (shb c_12.2.2.1 c_12.2.2.2.2)) := kAt.keep sh17 hk7
        have hvt : ∀ e ∈ ([] : List zEn), e.v ≠ a16 := fun e he => nomatch he
        refine z_dup (pc := 74) C dX2_difficulty_74 rfl ?_
        refine z_callIN (pc := 75) (n := 0) (kc' := ((5 * (40 - i.toNat) + bLC cap2 41 - 1) - 1)) (ks' := ((136 * (40 - i.toNat) + bLS cap2 41 - 3) - 1)) C (ct_Tal_init C.t (m := a16)) q1465 q1463 q102 q1464 rfl (by decide +kernel) ⟨by decide, by decide⟩ rfl rfl (Nat.le_of_ble_eq_true rfl) dX2_difficulty_75 (by omega) (by omega) (zpk (st' := [.ref a16]) rfl ?_) zrx
        refine z_astore (pc := 78) (L' := [(8, .ref a16), (7, .ref a13), (6, .int (iI i)), (5, .null), (4, .int (iI sm)), (3, .ref a5), (2, .ref a1), (1, .int (iI fr)), (0, .ref s)]) C dX2_difficulty_78 (by rw [hnL]; decide) rfl ?_
        refine z_aload_n (pc := 80) (j := 6) C dX2_difficulty_80 rfl rfl ?_
        refine z_aload (pc := 81) (j := 1) C dX2_difficulty_81 rfl ?_
        refine z_aload (pc := 83) (j := 0) C dX2_difficulty_83 rfl ?_
        refine z_callV (pc := 85) (n := 2) (kc' := (((5 * (40 - i.toNat) + bLC cap2 41 - 1) - 1) - 3)) (ks' := (((136 * (40 - i.toNat) + bLS cap2 41 - 3) - 1) - 132)) C (ct_M_put0 C.t fh17_1 ph17_3 (v := a16)) (lw_V q1471 q1472 q1473 q97 q1474) (by decide +kernel) ⟨by decide, by decide⟩ fh17_1 rfl rfl rfl (Nat.le_of_ble_eq_true rfl) dX2_difficulty_85 (by omega) (by omega) (zrk fun w h18 hp => ?_) zrx
        obtain ⟨rfl, n_19, tb_19, cap_19, hmA_19, hlt_19, hkk_19⟩ := hp
        have hzk_19 := hlt_19.zk hkk_19
        have hfr_19 := hlt_19 h kh17 (fun q hq => by rw [List.mem_singleton.mp hq]; exact na1)
        have fh18_1 : h18 a5 = some (true, .inr (10, [.int (iI m_11), .ref u2, .int (iI (((List.map zEn.k ([] : List zEn)).length : Nat) : Int))])) := hzk_19.n fh17_2 (by simpa using (zneC fh17_2 fh17_1 (by decide)))
        have fh18_2 : h18 u2 = some ((decide (cap2 ≠ 0)), .inl ((.object "java/lang/Object"), cap2, f_11)) := hzk_19.n fh17_3 (by simpa using (Ne.symm (zneA fh17_1 fh17_3)))
        have fh18_3 : h18 q_12 = some (false, .inr (6, [.int (iI c_12.1), .int (iI c_12.2.1), .int (iI c_12.2.2.1), .int (iI c_12.2.2.2.1), .int (iI c_12.2.2.2.2)])) := hzk_19.f fh17_4
        have fh18_4 : h18 a13 = some (false, .inr (7, [.int (iI (shr c_12.2.2.1 fr)), .int (iI c_12.2.2.2.1), .int (iI (shb c_12.2.2.1 c_12.2.2.2.2))])) := hzk_19.f fh17_5
        have fh18_5 : h18 a16 = some (true, .inr (8, [.int (iI 0)])) := hzk_19.n fh17_0 (by simpa using (Ne.symm (zneF fh14_1 fa16)))
        have pz20 : ∀ q ∈ List.map zEn.k ([] : List zEn), zel h18 q := zels.keep hzk_19 ph17_1
        have pz21 : tyA h18 ([] : List zEn) ct := tyA.keep hzk_19 (fun q hq x z => by rw [List.mem_singleton.mp hq, fh17_1] at z; cases z) ph17_2
        have pz22 : kAt h18 a13 (scode (shr c_12.2.2.1 fr) c_12.2.2.2.1 (shb c_12.2.2.1 c_12.2.2.2.2)) := kAt.keep hzk_19 ph17_3
        obtain ⟨⟨mcC, fC, hmC, -⟩, -⟩ := id hmA_19
        show Z X h18 (((5 * (40 - i.toNat) + bLC cap2 41 - 1) - 1) - 3) (((136 * (40 - i.toNat) + bLS cap2 41 - 3) - 1) - 132) [(8, .ref a16), (7, .ref a13), (6, .int (iI i)), (5, .null), (4, .int (iI sm)), (3, .ref a5), (2, .ref a1), (1, .int (iI fr)), (0, .ref s)] 88 [.null]
        refine z_pop (pc := 88) C dX2_difficulty_88 rfl ?_
        refine z_aload_n (pc := 89) (j := 5) C dX2_difficulty_89 rfl rfl ?_
        refine z_aload (pc := 90) (j := 1) C dX2_difficulty_90 rfl ?_
        have hB92 := lC_b (cap := cap2) (n := (List.map zEn.k ([] : List zEn)).length + 1) (N := 41) (by simp only [List.length_map, List.length_nil] at *; omega) lt_11
        have hC92 := lS_b (cap := cap2) (n := (List.map zEn.k ([] : List zEn)).length + 1) (N := 41) (by simp only [List.length_map, List.length_nil] at *; omega) lt_11
        refine z_callV (pc := 92) (n := 1) (kc' := ((((5 * (40 - i.toNat) + bLC cap2 41 - 1) - 1) - 3) - lC cap2 ((List.map zEn.k ([] : List zEn)).length + 1))) (ks' := ((((136 * (40 - i.toNat) + bLS cap2 41 - 3) - 1) - 132) - lS cap2 ((List.map zEn.k ([] : List zEn)).length + 1))) C (ct_L_add C.t (lAt.mk (cap := cap2) rfl rfl rfl fh18_1 fh18_2 lz_11 lt_11 ln_11 lc_11 lx_11 pz20) fh18_4 rfl q2514 (by first | omega | (simp; omega))) (lw_V q963 q204 q205 q68 q206) (by decide +kernel) ⟨by decide, by decide⟩ fh18_1 rfl rfl rfl (Nat.le_of_ble_eq_true rfl) dX2_difficulty_92 (by omega) (by omega) (zrk fun w h23 hp => ?_) zrx
        obtain ⟨rfl, e24, hl25, he26, k27⟩ := hp
        have de24 : e24 ∈ ([] : List Nat) ∨ h e24 = none := zmayL hml (lAt.mk (cap := cap2) rfl rfl rfl fh18_1 fh18_2 lz_11 lt_11 ln_11 lc_11 lx_11 pz20) hl25 (by have := lcap_ge (cap := cap2) (n := (List.map zEn.k ([] : List zEn)).length + 1); omega) he26 hfr_19.1 k27
        have ge24 : e24 = u2 ∨ h e24 = none := he26.imp_right (fun z => hfr_19.1.none0 z List.not_mem_nil)
        have kh23 : zkeep h h23 [] := zkeep.loc hfr_19.1 k27 (zall_cons (Or.inl (Or.symm (Or.inr na5))) (zall_cons (lAt.fz (lAt.mk (cap := cap2) rfl rfl rfl fh18_1 fh18_2 lz_11 lt_11 ln_11 lc_11 lx_11 pz20) hml) zall_nil))
        have fh23_1 : h23 q_12 = some (false, .inr (6, [.int (iI c_12.1), .int (iI c_12.2.1), .int (iI c_12.2.2.1), .int (iI c_12.2.2.2.1), .int (iI c_12.2.2.2.2)])) := k27.f fh18_3
        have fh23_2 : h23 a13 = some (false, .inr (7, [.int (iI (shr c_12.2.2.1 fr)), .int (iI c_12.2.2.2.1), .int (iI (shb c_12.2.2.1 c_12.2.2.2.2))])) := k27.f fh18_4
        have fh23_3 : h23 a16 = some (true, .inr (8, [.int (iI 0)])) := k27.n fh18_5 (List.not_mem_cons_of_ne_of_not_mem (Ne.symm (zneF fh14_2 fa16)) (List.not_mem_cons_of_ne_of_not_mem (Ne.symm (zneF fh14_3 fa16)) List.not_mem_nil))
        have fh23_4 : h23 a1 = some (true, .inr (14, [.null, .null, .ref tb_19, .null, .int (iI ((([((n_19, a13, a16, (scode (shr c_12.2.2.1 fr) c_12.2.2.2.1 (shb c_12.2.2.1 c_12.2.2.2.2))) : zEn)] : List zEn).length : Nat) : Int)), .int (iI mcC), .int (iI ((cap_19 - cap_19 / 4 : Nat) : Int)), .float 1061158912])) := k27.n hmC (List.not_mem_cons_of_ne_of_not_mem (zneC hmC fh18_1 (by decide)) (List.not_mem_cons_of_ne_of_not_mem (zneA hmC fh18_2) List.not_mem_nil))
        have ph23_1 : ∀ q ∈ List.map zEn.k ([] : List zEn), zel h23 q := zels.keep k27 pz20
        have ph23_2 : tyA h23 ([] : List zEn) ct := tyA.keep k27 (zall_cons (fun x z => by rw [fh18_1] at z; simp at z) (zall_cons (fun x z => by rw [fh18_2] at z; simp at z) zall_nil)) pz21
        have ph23_3 : kAt h23 a13 (scode (shr c_12.2.2.1 fr) c_12.2.2.2.1 (shb c_12.2.2.1 c_12.2.2.2.2)) := kAt.keep k27 pz22
        have ph23_4 : mpA h23 a1 tb_19 cap_19 ([((n_19, a13, a16, (scode (shr c_12.2.2.1 fr) c_12.2.2.2.1 (shb c_12.2.2.1 c_12.2.2.2.2))) : zEn)] : List zEn) ((([((n_19, a13, a16, (scode (shr c_12.2.2.1 fr) c_12.2.2.2.1 (shb c_12.2.2.1 c_12.2.2.2.2))) : zEn)] : List zEn).length : Nat) : Int) (.float 1061158912) := mpA.keep hmA_19 k27 (zall_cons ⟨_, fh18_1, (nmk_o (by decide) (by decide))⟩ (zall_cons ⟨_, fh18_2, (nmk_a (by simp))⟩ zall_nil))
        show Z X h23 ((((5 * (40 - i.toNat) + bLC cap2 41 - 1) - 1) - 3) - lC cap2 ((List.map zEn.k ([] : List zEn)).length + 1)) ((((136 * (40 - i.toNat) + bLS cap2 41 - 3) - 1) - 132) - lS cap2 ((List.map zEn.k ([] : List zEn)).length + 1)) [(8, .ref a16), (7, .ref a13), (6, .int (iI i)), (5, .null), (4, .int (iI sm)), (3, .ref a5), (2, .ref a1), (1, .int (iI fr)), (0, .ref s)] 95 [.int (iI 1)]
        have hx_28 := hl25
        obtain ⟨m_28, f_28, la_28, le_28, lz_28, lt_28, ln_28, lc_28, lx_28, lq_28⟩ := hx_28
        refine z_pop (pc := 95) C dX2_difficulty_95 rfl ?_
        have htyA := (ph23_2).app (e := ((n_19, a13, a16, (scode (shr c_12.2.2.1 fr) c_12.2.2.2.1 (shb c_12.2.2.1 c_12.2.2.2.2))) : zEn)) (n := 0) fh23_3
        have hsw0 := swt_app (e := ((n_19, a13, a16, (scode (shr c_12.2.2.1 fr) c_12.2.2.2.1 (shb c_12.2.2.1 c_12.2.2.2.2))) : zEn)) (ph23_2)
        have hvnN : ((([] : List zEn) ++ [((n_19, a13, a16, (scode (shr c_12.2.2.1 fr) c_12.2.2.2.1 (shb c_12.2.2.1 c_12.2.2.2.2))) : zEn)]).map zEn.v).Nodup := by
          rw [List.map_append, List.nodup_append]
          refine ⟨List.nodup_nil, by simp, fun a ha b hb e => ?_⟩
          obtain ⟨d, hd, rfl⟩ := List.mem_map.mp ha
          simp only [List.map_cons, List.map_nil, List.mem_cons, List.not_mem_nil, or_false] at hb
          have e' : d.v = a16 := e.trans hb
          exact hvt d hd e'
        have hvfN : ∀ e ∈ ([] : List zEn) ++ [((n_19, a13, a16, (scode (shr c_12.2.2.1 fr) c_12.2.2.2.1 (shb c_12.2.2.1 c_12.2.2.2.2))) : zEn)], h e.v = none := fun e he => by
          rcases List.mem_append.mp he with q | q
          · exact nomatch q
          · rw [List.mem_singleton.mp q]; exact na16
        obtain ⟨nT, hT1, hT2⟩ := htyA.up (e := ((n_19, a13, a16, (scode (shr c_12.2.2.1 fr) c_12.2.2.2.1 (shb c_12.2.2.1 c_12.2.2.2.2))) : zEn)) (by simp) hvnN
        have hT1 : h23 a16 = some (true, .inr (8, [.int (iI nT)])) := hT1
        have hsx : sdf (zEn.c ((n_19, a13, a16, (scode (shr c_12.2.2.1 fr) c_12.2.2.2.1 (shb c_12.2.2.1 c_12.2.2.2.2))) : zEn) / 20) (zEn.c ((n_19, a13, a16, (scode (shr c_12.2.2.1 fr) c_12.2.2.2.1 (shb c_12.2.2.1 c_12.2.2.2.2))) : zEn) / 2 % 10) (zEn.c ((n_19, a13, a16, (scode (shr c_12.2.2.1 fr) c_12.2.2.2.1 (shb c_12.2.2.1 c_12.2.2.2.2))) : zEn) % 2) = sdx fr c_12 := scode_d yq6 hr4_12 yq7
        refine z_aload (pc := 96) (j := 0) C dX2_difficulty_96 rfl ?_
        refine z_dup (pc := 98) C dX2_difficulty_98 rfl ?_
        refine z_getfieldN (pc := 99) (v := .int (iI nT)) C in_X9 rfl 0 (by decide) q1467 (fun _ z => z) hT1 rfl dX2_difficulty_99 ?_
        refine z_iconst (pc := 102) C dX2_difficulty_102 ?_
        refine z_iadd (pc := 103) C dX2_difficulty_103 ?_
        refine z_putfieldN (pc := 104) (fs' := [.int (iI (nT + 1))]) C in_X9 tyX9 tyX9_ok nmX9 rfl 0 (by decide) q1467 (fun _ z => z) rfl rfl rfl (Nat.le_of_ble_eq_true rfl) hT1 rfl dX2_difficulty_104 ?_
        refine Z.nm (fun h29 eh29 => ?_)
        have kh29 : zkeep h h29 [] := by rw [eh29]; exact zkeep.up kh23 (Or.inr na16) hT1
        have fh29_0 : h29 a16 = some (true, .inr (8, [.int (iI (nT + 1))])) := zse eh29
        have fh29_1 : h29 q_12 = some (false, .inr (6, [.int (iI c_12.1), .int (iI c_12.2.1), .int (iI c_12.2.2.1), .int (iI c_12.2.2.2.1), .int (iI c_12.2.2.2.2)])) := zsn eh29 fh23_1 (zneF fh14_4 fa16)
        have fh29_2 : h29 a13 = some (false, .inr (7, [.int (iI (shr c_12.2.2.1 fr)), .int (iI c_12.2.2.2.1), .int (iI (shb c_12.2.2.1 c_12.2.2.2.2))])) := zsn eh29 fh23_2 (zneF fka13 fa16)
        have fh29_3 : h29 a1 = some (true, .inr (14, [.null, .null, .ref tb_19, .null, .int (iI ((([((n_19, a13, a16, (scode (shr c_12.2.2.1 fr) c_12.2.2.2.1 (shb c_12.2.2.1 c_12.2.2.2.2))) : zEn)] : List zEn).length : Nat) : Int)), .int (iI mcC), .int (iI ((cap_19 - cap_19 / 4 : Nat) : Int)), .float 1061158912])) := zsn eh29 fh23_4 (zneF fh14_1 fa16)
        have fh29_4 : h29 a5 = some (true, .inr (10, [.int (iI m_28), .ref e24, .int (iI (((List.map zEn.k ([] : List zEn) ++ [a13]).length : Nat) : Int))])) := zsn eh29 la_28 (zneF fh14_2 fa16)
        have fh29_5 : h29 e24 = some ((decide (lcap cap2 ((List.map zEn.k ([] : List zEn)).length + 1) ≠ 0)), .inl ((.object "java/lang/Object"), lcap cap2 ((List.map zEn.k ([] : List zEn)).length + 1), f_28)) := zsn eh29 le_28 (Ne.symm (zneA hT1 le_28))
        have sh29 : zkeep h23 h29 [a16] := zkeep.one eh29 hT1
        have ph29_1 : ∀ q ∈ List.map zEn.k ([] : List zEn) ++ [a13], zel h29 q := zels.keep sh29 lq_28
        have ph29_2 : kAt h29 a13 (scode (shr c_12.2.2.1 fr) c_12.2.2.2.1 (shb c_12.2.2.1 c_12.2.2.2.2)) := kAt.keep sh29 ph23_3
        have ph29_3 : mpA h29 a1 tb_19 cap_19 ([((n_19, a13, a16, (scode (shr c_12.2.2.1 fr) c_12.2.2.2.1 (shb c_12.2.2.1 c_12.2.2.2.2))) : zEn)] : List zEn) ((([((n_19, a13, a16, (scode (shr c_12.2.2.1 fr) c_12.2.2.2.1 (shb c_12.2.2.1 c_12.2.2.2.2))) : zEn)] : List zEn).length : Nat) : Int) (.float 1061158912) := mpA.keep ph23_4 sh29 (zall_cons ⟨_, hT1, (nmk_o (by decide) (by decide))⟩ zall_nil)
        obtain ⟨ctN, htyN, hswN0⟩ := hT2 _ sh29 fh29_0
        have hswN : swt (([] : List zEn) ++ [((n_19, a13, a16, (scode (shr c_12.2.2.1 fr) c_12.2.2.2.1 (shb c_12.2.2.1 c_12.2.2.2.2))) : zEn)]) ctN + sds fr (cs.drop (i + 1).toNat) = sds fr cs := by
          rw [hds, sds] at hsw
          rw [hsw0] at hswN0
          rw [hsx] at hswN0
          omega
        refine z_iload (pc := 107) (j := 4) C dX2_difficulty_107 rfl ?_
        refine z_aloadN (pc := 109) (j := 3) C dX2_difficulty_109 rfl ?_
        refine z_ifnullN (pc := 111) (tgt := 147) C dX2_difficulty_111 (by decide) ?_
        refine z_iconst (pc := 147) C dX2_difficulty_147 ?_
        refine z_iadd (pc := 148) C dX2_difficulty_148 ?_
        have hsmN : sm + 0 + trs fr (some c_12) (cs.drop (i + 1).toNat) = fr + trs fr none cs := by rw [hds, trs] at hsm; omega
        refine z_istore (pc := 149) (L' := [(4, .int (iI (sm + 0))), (8, .ref a16), (7, .ref a13), (6, .int (iI i)), (5, .null), (3, .ref a5), (2, .ref a1), (1, .int (iI fr)), (0, .ref s)]) C dX2_difficulty_149 (by rw [hnL]; decide) rfl ?_
        refine z_aload (pc := 151) (j := 2) C dX2_difficulty_151 rfl ?_
        refine z_astore (pc := 153) (L' := [(5, .ref a13), (4, .int (iI (sm + 0))), (8, .ref a16), (7, .ref a13), (6, .int (iI i)), (3, .ref a5), (2, .ref a1), (1, .int (iI fr)), (0, .ref s)]) C dX2_difficulty_153 (by rw [hnL]; decide) rfl ?_
        refine z_iinc (pc := 155) (k := 4) (L' := [(6, .int (iI (i + 1))), (5, .ref a13), (4, .int (iI (sm + 0))), (8, .ref a16), (7, .ref a13), (3, .ref a5), (2, .ref a1), (1, .int (iI fr)), (0, .ref s)]) C dX2_difficulty_155 rfl (by rw [hnL]; decide) rfl ?_
        refine z_goto (pc := 158) (tgt := 25) C dX2_difficulty_158 (by decide) ?_
        refine Z.weak (L' := [(6, .int (iI (i + 1))), (5, .ref a13), (4, .int (iI (sm + 0))), (3, .ref a5), (2, .ref a1), (1, .int (iI fr)), (0, .ref s)]) (kc' := 5 * (40 - (i + 1).toNat) + bLC (lcap cap2 ((List.map zEn.k ([] : List zEn)).length + 1)) 41) (ks' := 136 * (40 - (i + 1).toNat) + bLS (lcap cap2 ((List.map zEn.k ([] : List zEn)).length + 1)) 41) [0, 1, 2, 5, 6, 7, 8] rfl (by omega) (by omega) ?_
        exact ih25 _ (by omega) (i + 1) h29 (sm + 0) (.ref a13) (some c_12) (([] : List zEn) ++ [((n_19, a13, a16, (scode (shr c_12.2.2.1 fr) c_12.2.2.2.1 (shb c_12.2.2.1 c_12.2.2.2.2))) : zEn)]) ctN tb_19 cap_19 e24 (lcap cap2 ((List.map zEn.k ([] : List zEn)).length + 1)) (by omega) kh29 (Or.inr ⟨ph29_3, hfr_19.2, c_12, a13, rfl, rfl, fh29_2, hr_12⟩) (by rw [List.map_append]; exact (lAt.mk (cap := lcap cap2 ((List.map zEn.k ([] : List zEn)).length + 1)) rfl rfl rfl fh29_4 fh29_5 lz_28 lt_28 ln_28 lc_28 lx_28 ph29_1)) (Or.inl de24) htyN hvnN hvfN hsmN hswN (by simp only [List.length_append, List.length_cons, List.length_nil]; omega) rfl
    · subst hs3 hs4
      obtain ⟨yr1, yr2, yr3, yr4, yr5⟩ := id hs6
      have yr6 := shr_r xL.2.2.1 fr
      have yr7 := shb_r xL.2.2.1 xL.2.2.2.2
      obtain ⟨⟨mcB, fB, hmB, -⟩, -⟩ := id hs1
      show Z X g (5 * (40 - i.toNat) + bLC cap2 41) (136 * (40 - i.toNat) + bLS cap2 41) [(6, .int (iI i)), (5, .ref qL), (4, .int (iI sm)), (3, .ref a5), (2, .ref a1), (1, .int (iI fr)), (0, .ref s)] 25 []
      have hx_30 := hla
      obtain ⟨m_30, f_30, la_30, le_30, lz_30, lt_30, ln_30, lc_30, lx_30, lq_30⟩ := hx_30
      refine z_iload (pc := 25) (j := 0) C dX2_difficulty_25 rfl ?_
      refine z_aload_n (pc := 27) (j := 6) C dX2_difficulty_27 rfl rfl ?_
      refine z_getfield (pc := 28) (v := .ref cq) C in_X2 rfl 1 (by decide) q169 (fun _ z => z) (hkp.n hs List.not_mem_nil) rfl dX2_difficulty_28 ?_
      refine z_callV (pc := 31) (n := 0) (kc' := (5 * (40 - i.toNat) + bLC cap2 41)) (ks' := (136 * (40 - i.toNat) + bLS cap2 41)) C (ct_L_size C.t (hkp.n hcq List.not_mem_nil)) (lw_V q902 q367 q368 q68 q369) (by decide +kernel) ⟨by decide, by decide⟩ (hkp.n hcq List.not_mem_nil) rfl rfl rfl (Nat.le_of_ble_eq_true rfl) dX2_difficulty_31 (by omega) (by omega) (zpk (st' := [.int (iI ((cs.length : Nat) : Int)), .int (iI i)]) rfl ?_) zrx
      refine z_icmp_ge (pc := 34) (tgt := 161) C dX2_difficulty_34 (by decide) (by omega) (by omega) (fun c34 => ?_) (fun c34 => ?_)
      · refine z_iconst (pc := 161) C dX2_difficulty_161 ?_
        refine z_istore (pc := 162) (L' := [(6, .int (iI 0)), (5, .ref qL), (4, .int (iI sm)), (3, .ref a5), (2, .ref a1), (1, .int (iI fr)), (0, .ref s)]) C dX2_difficulty_162 (by rw [hnL]; decide) rfl ?_
        have loop164 : ∀ (n164 : Nat) (j : Int) (s2 : Int), (0 ≤ j ∧ j ≤ (es.length : Nat)) → (s2 + swt (es.drop j.toNat) (ct.drop j.toNat) = fr + trs fr none cs + swt es ct) → (((es.length : Nat) - j).toNat) = n164 → Z X g 0 0 [(6, .int (iI j)), (4, .int (iI s2)), (3, .ref a5), (2, .ref a1), (0, .ref s)] 164 [] := by
          intro n164
          induction n164 using Nat.strongRecOn with
          | ind n164 ih164 =>
          intro j s2 hj hs2m hn164
          refine z_iload (pc := 164) (j := 0) C dX2_difficulty_164 rfl ?_
          refine z_aload_n (pc := 166) (j := 2) C dX2_difficulty_166 rfl rfl ?_
          refine z_callV (pc := 167) (n := 0) (kc' := 0) (ks' := 0) C (ct_L_size C.t la_30) (lw_V q902 q367 q368 q68 q369) (by decide +kernel) ⟨by decide, by decide⟩ la_30 rfl rfl rfl (Nat.le_of_ble_eq_true rfl) dX2_difficulty_167 (by omega) (by omega) (zpk (st' := [.int (iI (((List.map zEn.k es).length : Nat) : Int)), .int (iI j)]) rfl ?_) zrx
          refine z_icmp_ge (pc := 170) (tgt := 213) C dX2_difficulty_170 (by decide) (by omega) (by omega) (fun c170 => ?_) (fun c170 => ?_)
          · refine z_iload (pc := 213) (j := 1) C dX2_difficulty_213 rfl ?_
            exact z_ireturn (pc := 215) C (by rw [hXp]; exact zpureK hkp (by rw [List.drop_of_length_le (by omega), sds] at hsw; rw [List.drop_of_length_le (by omega)] at hs2m; simp only [swt] at hs2m; unfold dif; omega)) dX2_difficulty_215
          · refine z_iload (pc := 173) (j := 1) C dX2_difficulty_173 rfl ?_
            refine z_aload_n (pc := 175) (j := 2) C dX2_difficulty_175 rfl rfl ?_
            refine z_iload (pc := 176) (j := 0) C dX2_difficulty_176 rfl ?_
            obtain ⟨e_31, he_31⟩ : ∃ x, es[j.toNat]? = some x := ⟨_, List.getElem?_eq_getElem (by omega)⟩
            have hem_31 := List.mem_of_getElem? he_31
            have hok_31 := hs1.2.2
            obtain ⟨kr_31, kq_31, kb_31, hkf_31, hkr_31, hkq_31, hkb_31, hkc_31⟩ := hok_31.2.2 e_31 hem_31
            obtain ⟨nn_31, hnn_31, hns_31⟩ := (hty).get he_31
            have hkx_31 : (es.map zEn.k)[j.toNat]? = some e_31.k := by rw [List.getElem?_map, he_31]; rfl
            have hsd_31 : sdf (e_31.c / 20) (e_31.c / 2 % 10) (e_31.c % 2) = sdf kr_31 kq_31 kb_31 := by rw [hkc_31]; exact scode_d hkr_31 hkq_31 hkb_31
            rw [hsd_31] at hns_31
            have hlm2 : (es.map zEn.k).length = es.length := by simp
            refine z_callV (pc := 178) (n := 1) (kc' := 0) (ks' := 0) C (ct_L_get C.t la_30 le_30 (i := j) (by simp only [List.length_map]; omega) (by omega) (lx_30 _ _ hkx_31)) (lw_V q903 q904 q905 q68 q906) (by decide +kernel) ⟨by decide, by decide⟩ la_30 rfl rfl rfl (Nat.le_of_ble_eq_true rfl) dX2_difficulty_178 (by omega) (by omega) (zpk (st' := [.ref e_31.k, .int (iI s2)]) rfl ?_) zrx
            refine z_castS (pc := 181) C q1621 rfl hkf_31 dX2_difficulty_181 ?_
            refine z_callV (pc := 184) (n := 0) (kc' := 0) (ks' := 0) C (ct_H_diff C.t hkf_31 (by omega) (by omega) (by omega)) (lw_V q1622 q1623 q1624 q98 q1625) (by decide +kernel) ⟨by decide, by decide⟩ hkf_31 rfl rfl rfl (Nat.le_of_ble_eq_true rfl) dX2_difficulty_184 (by omega) (by omega) (zpk (st' := [.int (iI (sdf kr_31 kq_31 kb_31)), .int (iI s2)]) rfl ?_) zrx
            refine z_aload_n (pc := 187) (j := 3) C dX2_difficulty_187 rfl rfl ?_
            refine z_aload_n (pc := 188) (j := 2) C dX2_difficulty_188 rfl rfl ?_
            refine z_iload (pc := 189) (j := 0) C dX2_difficulty_189 rfl ?_
            refine z_callV (pc := 191) (n := 1) (kc' := 0) (ks' := 0) C (ct_L_get C.t la_30 le_30 (i := j) (by simp only [List.length_map]; omega) (by omega) (lx_30 _ _ hkx_31)) (lw_V q903 q904 q905 q68 q906) (by decide +kernel) ⟨by decide, by decide⟩ la_30 rfl rfl rfl (Nat.le_of_ble_eq_true rfl) dX2_difficulty_191 (by omega) (by omega) (zpk (st' := [.ref e_31.k, .ref a1, .int (iI (sdf kr_31 kq_31 kb_31)), .int (iI s2)]) rfl ?_) zrx
            refine z_callV (pc := 194) (n := 1) (kc' := 0) (ks' := 0) C (ct_M_get C.t hs1 (hok_31.2.2 e_31 hem_31)) (lw_V q1133 q1134 q1135 q97 q1136) (by decide +kernel) ⟨by decide, by decide⟩ hmB rfl rfl rfl (Nat.le_of_ble_eq_true rfl) dX2_difficulty_194 (by omega) (by omega) (zrk fun w h32 hp => ?_) zrx
            obtain ⟨hpg, eh32⟩ := hp
            rw [eh32]
            obtain ⟨eG, hge, hgc, hg3⟩ := hpg.resolve_left (fun z => z.1 e_31 hem_31 rfl)
            have heq := hok_31.one hge hem_31 hgc
            rw [heq] at hg3
            subst hg3
            show Z X g 0 0 [(6, .int (iI j)), (4, .int (iI s2)), (3, .ref a5), (2, .ref a1), (0, .ref s)] 197 [.ref e_31.v, .int (iI (sdf kr_31 kq_31 kb_31)), .int (iI s2)]
            refine z_castS (pc := 197) C q1461 rfl hnn_31 dX2_difficulty_197 ?_
            refine z_getfieldN (pc := 200) (v := .int (iI nn_31)) C in_X9 rfl 0 (by decide) q1467 (fun _ z => z) hnn_31 rfl dX2_difficulty_200 ?_
            refine z_imul (pc := 203) C dX2_difficulty_203 ?_
            refine z_iadd (pc := 204) C dX2_difficulty_204 ?_
            refine z_istore (pc := 205) (L' := [(4, .int (iI (s2 + ((sdf kr_31 kq_31 kb_31) * nn_31)))), (6, .int (iI j)), (3, .ref a5), (2, .ref a1), (0, .ref s)]) C dX2_difficulty_205 (by rw [hnL]; decide) rfl ?_
            refine z_iinc (pc := 207) (k := 1) (L' := [(6, .int (iI (j + 1))), (4, .int (iI (s2 + ((sdf kr_31 kq_31 kb_31) * nn_31)))), (3, .ref a5), (2, .ref a1), (0, .ref s)]) C dX2_difficulty_207 rfl (by rw [hnL]; decide) rfl ?_
            refine z_goto (pc := 210) (tgt := 164) C dX2_difficulty_210 (by decide) ?_
            refine Z.weak (L' := [(6, .int (iI (j + 1))), (4, .int (iI (s2 + ((sdf kr_31 kq_31 kb_31) * nn_31)))), (3, .ref a5), (2, .ref a1), (0, .ref s)]) (kc' := 0) (ks' := 0) [0, 1, 2, 3, 4] rfl (by omega) (by omega) ?_
            exact ih164 _ (by omega) (j + 1) (s2 + ((sdf kr_31 kq_31 kb_31) * nn_31)) (by omega) (by rw [show (j + 1).toNat = j.toNat + 1 by omega]; omega) rfl
        refine Z.weak (L' := [(6, .int (iI 0)), (4, .int (iI sm)), (3, .ref a5), (2, .ref a1), (0, .ref s)]) (kc' := 0) (ks' := 0) [0, 2, 3, 4, 6] rfl (by omega) (by omega) ?_
        exact loop164 _ 0 sm (by omega) (by rw [List.drop_of_length_le (by omega), trs] at hsm; simp only [Int.toNat_zero, List.drop_zero]; omega) rfl
      · refine z_aload_n (pc := 37) (j := 6) C dX2_difficulty_37 rfl rfl ?_
        refine z_getfield (pc := 38) (v := .ref cq) C in_X2 rfl 1 (by decide) q169 (fun _ z => z) (hkp.n hs List.not_mem_nil) rfl dX2_difficulty_38 ?_
        refine z_iload (pc := 41) (j := 0) C dX2_difficulty_41 rfl ?_
        obtain ⟨c_33, hc_33⟩ : ∃ x, cs[(i).toNat]? = some x := ⟨_, List.getElem?_eq_getElem (by omega)⟩
        obtain ⟨q_33, hq_33, ha_33⟩ := (clA.keep hkp hcl) _ _ hc_33
        have hr_33 := hrg _ (List.mem_of_getElem? hc_33)
        have hr1_33 := hr_33.1
        have hr2_33 := hr_33.2.1
        have hr3_33 := hr_33.2.2.1
        have hr4_33 := hr_33.2.2.2.1
        have hr5_33 := hr_33.2.2.2.2
        have hds := drop_step hc_33 (by omega)
        have yq6 := shr_r c_33.2.2.1 fr
        have yq7 := shb_r c_33.2.2.1 c_33.2.2.2.2
        refine z_callV (pc := 43) (n := 1) (kc' := (5 * (40 - i.toNat) + bLC cap2 41)) (ks' := (136 * (40 - i.toNat) + bLS cap2 41)) C (ct_L_get C.t (hkp.n hcq List.not_mem_nil) (hkp.n he List.not_mem_nil) (i := i) (by omega) (by omega) hq_33) (lw_V q903 q904 q905 q68 q906) (by decide +kernel) ⟨by decide, by decide⟩ (hkp.n hcq List.not_mem_nil) rfl rfl rfl (Nat.le_of_ble_eq_true rfl) dX2_difficulty_43 (by omega) (by omega) (zpk (st' := [.ref q_33]) rfl ?_) zrx
        refine z_castS (pc := 46) C q915 rfl ha_33 dX2_difficulty_46 ?_
        refine z_iload_n (pc := 49) (j := 5) C dX2_difficulty_49 rfl rfl ?_
        refine z_callV (pc := 50) (n := 1) (kc' := (5 * (40 - i.toNat) + bLC cap2 41 - 1)) (ks' := (136 * (40 - i.toNat) + bLS cap2 41 - 3)) C (ct_C_shape C.t (f := fr) ha_33 (by omega) (by omega) (by omega)) (lw_V q1110 q1111 q1112 q89 q1113) (by decide +kernel) ⟨by decide, by decide⟩ ha_33 rfl rfl rfl (Nat.le_of_ble_eq_true rfl) dX2_difficulty_50 (by omega) (by omega) (zrk fun w h35 hp => ?_) zrx
        obtain ⟨a34, rfl, fka34, fa34, k36⟩ := hp
        have na34 : h a34 = none := hkp.none0 fa34 List.not_mem_nil
        have kh35 : zkeep h h35 [] := zkeep.loc hkp k36 zall_nil
        have fh35_1 : h35 qL = some (false, .inr (7, [.int (iI (shr xL.2.2.1 fr)), .int (iI xL.2.2.2.1), .int (iI (shb xL.2.2.1 xL.2.2.2.2))])) := k36.f hs5
        have fh35_2 : h35 a1 = some (true, .inr (14, [.null, .null, .ref tb, .null, .int (iI ((es.length : Nat) : Int)), .int (iI mcB), .int (iI ((cap0 - cap0 / 4 : Nat) : Int)), .float 1061158912])) := k36.n hmB List.not_mem_nil
        have fh35_3 : h35 a5 = some (true, .inr (10, [.int (iI m_30), .ref u2, .int (iI (((List.map zEn.k es).length : Nat) : Int))])) := k36.n la_30 List.not_mem_nil
        have fh35_4 : h35 u2 = some ((decide (cap2 ≠ 0)), .inl ((.object "java/lang/Object"), cap2, f_30)) := k36.n le_30 List.not_mem_nil
        have fh35_5 : h35 q_33 = some (false, .inr (6, [.int (iI c_33.1), .int (iI c_33.2.1), .int (iI c_33.2.2.1), .int (iI c_33.2.2.2.1), .int (iI c_33.2.2.2.2)])) := k36.f ha_33
        have ph35_1 : mpA h35 a1 tb cap0 es ((es.length : Nat) : Int) (.float 1061158912) := mpA.keep hs1 k36 zall_nil
        have ph35_2 : ∀ q ∈ List.map zEn.k es, zel h35 q := zels.keep k36 lq_30
        have ph35_3 : tyA h35 es ct := tyA.keep k36 zall_nil hty
        show Z X h35 (5 * (40 - i.toNat) + bLC cap2 41 - 1) (136 * (40 - i.toNat) + bLS cap2 41 - 3) [(6, .int (iI i)), (5, .ref qL), (4, .int (iI sm)), (3, .ref a5), (2, .ref a1), (1, .int (iI fr)), (0, .ref s)] 53 [.ref a34]
        refine z_astore (pc := 53) (L' := [(7, .ref a34), (6, .int (iI i)), (5, .ref qL), (4, .int (iI sm)), (3, .ref a5), (2, .ref a1), (1, .int (iI fr)), (0, .ref s)]) C dX2_difficulty_53 (by rw [hnL]; decide) rfl ?_
        have hk7 : kAt h35 a34 (scode (shr c_33.2.2.1 fr) c_33.2.2.2.1 (shb c_33.2.2.1 c_33.2.2.2.2)) := ⟨_, _, _, fka34, yq6, hr4_33, yq7, rfl⟩
        refine z_aload_n (pc := 55) (j := 5) C dX2_difficulty_55 rfl rfl ?_
        refine z_aload (pc := 56) (j := 0) C dX2_difficulty_56 rfl ?_
        refine z_callV (pc := 58) (n := 1) (kc' := (5 * (40 - i.toNat) + bLC cap2 41 - 1)) (ks' := (136 * (40 - i.toNat) + bLS cap2 41 - 3)) C (ct_M_get C.t ph35_1 hk7) (lw_V q1133 q1134 q1135 q97 q1136) (by decide +kernel) ⟨by decide, by decide⟩ fh35_2 rfl rfl rfl (Nat.le_of_ble_eq_true rfl) dX2_difficulty_58 (by omega) (by omega) (zrk fun w h37 hp => ?_) zrx
        obtain ⟨hpg, eh37⟩ := hp
        rw [eh37]
        rcases hpg with ⟨hg1, hg2⟩ | ⟨eG, hge, hgc, hg3⟩
        · subst hg2
          show Z X h35 (5 * (40 - i.toNat) + bLC cap2 41 - 1) (136 * (40 - i.toNat) + bLS cap2 41 - 3) [(7, .ref a34), (6, .int (iI i)), (5, .ref qL), (4, .int (iI sm)), (3, .ref a5), (2, .ref a1), (1, .int (iI fr)), (0, .ref s)] 61 [.null]
          refine z_castN (pc := 61) C dX2_difficulty_61 ?_
          refine z_astoreN (pc := 64) (L' := [(8, .null), (7, .ref a34), (6, .int (iI i)), (5, .ref qL), (4, .int (iI sm)), (3, .ref a5), (2, .ref a1), (1, .int (iI fr)), (0, .ref s)]) C dX2_difficulty_64 (by rw [hnL]; decide) rfl ?_
          refine z_aloadN (pc := 66) (j := 0) C dX2_difficulty_66 rfl ?_
          refine z_ifnonnullN (pc := 68) C dX2_difficulty_68 ?_
          refine z_new (pc := 71) (ci := 8) (kc' := ((5 * (40 - i.toNat) + bLC cap2 41 - 1) - 1)) (ks' := ((136 * (40 - i.toNat) + bLS cap2 41 - 3) - 1)) (fs := [.int (iI 0)]) C in_X9 tyX9 tyX9_ok rfl q1461 q1462 q102 df_X9 (by omega) (by omega) dX2_difficulty_71 (fun a39 fa39 => ?_)
          refine Z.nm (fun h40 eh40 => ?_)
          have na39 : h a39 = none := kh35.none0 fa39 List.not_mem_nil
          have kh40 : zkeep h h40 [] := by rw [eh40]; exact zkeep.born kh35 fa39
          have fh40_0 : h40 a39 = some (true, .inr (8, [.int (iI 0)])) := zse eh40
          have fh40_1 : h40 qL = some (false, .inr (7, [.int (iI (shr xL.2.2.1 fr)), .int (iI xL.2.2.2.1), .int (iI (shb xL.2.2.1 xL.2.2.2.2))])) := zsn eh40 fh35_1 (zneF fh35_1 fa39)
          have fh40_2 : h40 a1 = some (true, .inr (14, [.null, .null, .ref tb, .null, .int (iI ((es.length : Nat) : Int)), .int (iI mcB), .int (iI ((cap0 - cap0 / 4 : Nat) : Int)), .float 1061158912])) := zsn eh40 fh35_2 (zneF fh35_2 fa39)
          have fh40_3 : h40 a5 = some (true, .inr (10, [.int (iI m_30), .ref u2, .int (iI (((List.map zEn.k es).length : Nat) : Int))])) := zsn eh40 fh35_3 (zneF fh35_3 fa39)
          have fh40_4 : h40 u2 = some ((decide (cap2 ≠ 0)), .inl ((.object "java/lang/Object"), cap2, f_30)) := zsn eh40 fh35_4 (zneF fh35_4 fa39)
          have fh40_5 : h40 q_33 = some (false, .inr (6, [.int (iI c_33.1), .int (iI c_33.2.1), .int (iI c_33.2.2.1), .int (iI c_33.2.2.2.1), .int (iI c_33.2.2.2.2)])) := zsn eh40 fh35_5 (zneF fh35_5 fa39)
          have fh40_6 : h40 a34 = some (false, .inr (7, [.int (iI (shr c_33.2.2.1 fr)), .int (iI c_33.2.2.2.1), .int (iI (shb c_33.2.2.1 c_33.2.2.2.2))])) := zsn eh40 fka34 (zneF fka34 fa39)
          have sh40 : zkeep h35 h40 [] := zkeep.one0 eh40 fa39
          have ph40_1 : mpA h40 a1 tb cap0 es ((es.length : Nat) : Int) (.float 1061158912) := mpA.keep ph35_1 sh40 zall_nil
          have ph40_2 : ∀ q ∈ List.map zEn.k es, zel h40 q := zels.keep sh40 ph35_2
          have ph40_3 : tyA h40 es ct := tyA.keep sh40 zall_nil ph35_3
          have ph40_4 : kAt h40 a34 (scode (shr c_33.2.2.1 fr) c_33.2.2.2.1 (shb c_33.2.2.1 c_33.2.2.2.2)) := kAt.keep sh40 hk7
          have hvt : ∀ e ∈ es, e.v ≠ a39 := fun e he => by
            obtain ⟨n, hn, -⟩ := (ph35_3).up he hvn
            exact zneF hn fa39
          refine z_dup (pc := 74) C dX2_difficulty_74 rfl ?_
          refine z_callIN (pc := 75) (n := 0) (kc' := ((5 * (40 - i.toNat) + bLC cap2 41 - 1) - 1)) (ks' := ((136 * (40 - i.toNat) + bLS cap2 41 - 3) - 1)) C (ct_Tal_init C.t (m := a39)) q1465 q1463 q102 q1464 rfl (by decide +kernel) ⟨by decide, by decide⟩ rfl rfl (Nat.le_of_ble_eq_true rfl) dX2_difficulty_75 (by omega) (by omega) (zpk (st' := [.ref a39]) rfl ?_) zrx
          refine z_astore (pc := 78) (L' := [(8, .ref a39), (7, .ref a34), (6, .int (iI i)), (5, .ref qL), (4, .int (iI sm)), (3, .ref a5), (2, .ref a1), (1, .int (iI fr)), (0, .ref s)]) C dX2_difficulty_78 (by rw [hnL]; decide) rfl ?_
          refine z_aload_n (pc := 80) (j := 6) C dX2_difficulty_80 rfl rfl ?_
          refine z_aload (pc := 81) (j := 1) C dX2_difficulty_81 rfl ?_
          refine z_aload (pc := 83) (j := 0) C dX2_difficulty_83 rfl ?_
          refine z_callV (pc := 85) (n := 2) (kc' := (((5 * (40 - i.toNat) + bLC cap2 41 - 1) - 1) - 3)) (ks' := (((136 * (40 - i.toNat) + bLS cap2 41 - 3) - 1) - 132)) C (ct_M_put C.t ph40_1 ph40_4 (v := a39) hg1 ⟨rfl, by omega⟩) (lw_V q1471 q1472 q1473 q97 q1474) (by decide +kernel) ⟨by decide, by decide⟩ fh40_2 rfl rfl rfl (Nat.le_of_ble_eq_true rfl) dX2_difficulty_85 (by omega) (by omega) (zrk fun w h41 hp => ?_) zrx
          obtain ⟨rfl, n_42, tb_42, cap_42, hmA_42, hlt_42, hkk_42⟩ := hp
          have hzk_42 := hlt_42.zk hkk_42
          have hfr_42 := hlt_42 h kh40 hs2
          have fh41_1 : h41 qL = some (false, .inr (7, [.int (iI (shr xL.2.2.1 fr)), .int (iI xL.2.2.2.1), .int (iI (shb xL.2.2.1 xL.2.2.2.2))])) := hzk_42.f fh40_1
          have fh41_2 : h41 a5 = some (true, .inr (10, [.int (iI m_30), .ref u2, .int (iI (((List.map zEn.k es).length : Nat) : Int))])) := hzk_42.n fh40_3 ((ph40_1).nin fh40_3 (nmk_o (by decide) (by decide)))
          have fh41_3 : h41 u2 = some ((decide (cap2 ≠ 0)), .inl ((.object "java/lang/Object"), cap2, f_30)) := hzk_42.n fh40_4 ((ph40_1).nin fh40_4 (nmk_a (by simp)))
          have fh41_4 : h41 q_33 = some (false, .inr (6, [.int (iI c_33.1), .int (iI c_33.2.1), .int (iI c_33.2.2.1), .int (iI c_33.2.2.2.1), .int (iI c_33.2.2.2.2)])) := hzk_42.f fh40_5
          have fh41_5 : h41 a34 = some (false, .inr (7, [.int (iI (shr c_33.2.2.1 fr)), .int (iI c_33.2.2.2.1), .int (iI (shb c_33.2.2.1 c_33.2.2.2.2))])) := hzk_42.f fh40_6
          have fh41_6 : h41 a39 = some (true, .inr (8, [.int (iI 0)])) := hzk_42.n fh40_0 ((ph40_1).nin fh40_0 (nmk_o (by decide) (by decide)))
          have pz43 : ∀ q ∈ List.map zEn.k es, zel h41 q := zels.keep hzk_42 ph40_2
          have pz44 : tyA h41 es ct := tyA.keep hzk_42 (fun q hq x z => (ph40_1).nin z (nmk_o (by decide) (by decide)) hq) ph40_3
          have pz45 : kAt h41 a34 (scode (shr c_33.2.2.1 fr) c_33.2.2.2.1 (shb c_33.2.2.1 c_33.2.2.2.2)) := kAt.keep hzk_42 ph40_4
          have hmA_42 : mpA h41 a1 tb_42 cap_42 (es ++ [((n_42, a34, a39, (scode (shr c_33.2.2.1 fr) c_33.2.2.2.1 (shb c_33.2.2.1 c_33.2.2.2.2))) : zEn)]) (((es ++ [((n_42, a34, a39, (scode (shr c_33.2.2.1 fr) c_33.2.2.2.1 (shb c_33.2.2.1 c_33.2.2.2.2))) : zEn)]).length : Nat) : Int) (.float 1061158912) := by simpa using hmA_42
          obtain ⟨⟨mcC, fC, hmC, -⟩, -⟩ := id hmA_42
          show Z X h41 (((5 * (40 - i.toNat) + bLC cap2 41 - 1) - 1) - 3) (((136 * (40 - i.toNat) + bLS cap2 41 - 3) - 1) - 132) [(8, .ref a39), (7, .ref a34), (6, .int (iI i)), (5, .ref qL), (4, .int (iI sm)), (3, .ref a5), (2, .ref a1), (1, .int (iI fr)), (0, .ref s)] 88 [.null]
          refine z_pop (pc := 88) C dX2_difficulty_88 rfl ?_
          refine z_aload_n (pc := 89) (j := 5) C dX2_difficulty_89 rfl rfl ?_
          refine z_aload (pc := 90) (j := 1) C dX2_difficulty_90 rfl ?_
          have hB92 := lC_b (cap := cap2) (n := (List.map zEn.k es).length + 1) (N := 41) (by simp only [List.length_map, List.length_nil] at *; omega) lt_30
          have hC92 := lS_b (cap := cap2) (n := (List.map zEn.k es).length + 1) (N := 41) (by simp only [List.length_map, List.length_nil] at *; omega) lt_30
          refine z_callV (pc := 92) (n := 1) (kc' := ((((5 * (40 - i.toNat) + bLC cap2 41 - 1) - 1) - 3) - lC cap2 ((List.map zEn.k es).length + 1))) (ks' := ((((136 * (40 - i.toNat) + bLS cap2 41 - 3) - 1) - 132) - lS cap2 ((List.map zEn.k es).length + 1))) C (ct_L_add C.t (lAt.mk (cap := cap2) rfl rfl rfl fh41_2 fh41_3 lz_30 lt_30 ln_30 lc_30 lx_30 pz43) fh41_5 rfl q2514 (by first | omega | (simp; omega))) (lw_V q963 q204 q205 q68 q206) (by decide +kernel) ⟨by decide, by decide⟩ fh41_2 rfl rfl rfl (Nat.le_of_ble_eq_true rfl) dX2_difficulty_92 (by omega) (by omega) (zrk fun w h46 hp => ?_) zrx
          obtain ⟨rfl, e47, hl48, he49, k50⟩ := hp
          have de47 : e47 ∈ ([] : List Nat) ∨ h e47 = none := zmayL hml (lAt.mk (cap := cap2) rfl rfl rfl fh41_2 fh41_3 lz_30 lt_30 ln_30 lc_30 lx_30 pz43) hl48 (by have := lcap_ge (cap := cap2) (n := (List.map zEn.k es).length + 1); omega) he49 hfr_42.1 k50
          have ge47 : e47 = u2 ∨ h e47 = none := he49.imp_right (fun z => hfr_42.1.none0 z List.not_mem_nil)
          have kh46 : zkeep h h46 [] := zkeep.loc hfr_42.1 k50 (zall_cons (Or.inl (Or.symm (Or.inr na5))) (zall_cons (lAt.fz (lAt.mk (cap := cap2) rfl rfl rfl fh41_2 fh41_3 lz_30 lt_30 ln_30 lc_30 lx_30 pz43) hml) zall_nil))
          have fh46_1 : h46 qL = some (false, .inr (7, [.int (iI (shr xL.2.2.1 fr)), .int (iI xL.2.2.2.1), .int (iI (shb xL.2.2.1 xL.2.2.2.2))])) := k50.f fh41_1
          have fh46_2 : h46 q_33 = some (false, .inr (6, [.int (iI c_33.1), .int (iI c_33.2.1), .int (iI c_33.2.2.1), .int (iI c_33.2.2.2.1), .int (iI c_33.2.2.2.2)])) := k50.f fh41_4
          have fh46_3 : h46 a34 = some (false, .inr (7, [.int (iI (shr c_33.2.2.1 fr)), .int (iI c_33.2.2.2.1), .int (iI (shb c_33.2.2.1 c_33.2.2.2.2))])) := k50.f fh41_5
          have fh46_4 : h46 a39 = some (true, .inr (8, [.int (iI 0)])) := k50.n fh41_6 (List.not_mem_cons_of_ne_of_not_mem (Ne.symm (zneF fh35_3 fa39)) (List.not_mem_cons_of_ne_of_not_mem (Ne.symm (zneF fh35_4 fa39)) List.not_mem_nil))
          have fh46_5 : h46 a1 = some (true, .inr (14, [.null, .null, .ref tb_42, .null, .int (iI (((es ++ [((n_42, a34, a39, (scode (shr c_33.2.2.1 fr) c_33.2.2.2.1 (shb c_33.2.2.1 c_33.2.2.2.2))) : zEn)]).length : Nat) : Int)), .int (iI mcC), .int (iI ((cap_42 - cap_42 / 4 : Nat) : Int)), .float 1061158912])) := k50.n hmC (List.not_mem_cons_of_ne_of_not_mem (zneC hmC fh41_2 (by decide)) (List.not_mem_cons_of_ne_of_not_mem (zneA hmC fh41_3) List.not_mem_nil))
          have ph46_1 : mpA h46 a1 tb_42 cap_42 (es ++ [((n_42, a34, a39, (scode (shr c_33.2.2.1 fr) c_33.2.2.2.1 (shb c_33.2.2.1 c_33.2.2.2.2))) : zEn)]) (((es ++ [((n_42, a34, a39, (scode (shr c_33.2.2.1 fr) c_33.2.2.2.1 (shb c_33.2.2.1 c_33.2.2.2.2))) : zEn)]).length : Nat) : Int) (.float 1061158912) := mpA.keep hmA_42 k50 (zall_cons ⟨_, fh41_2, (nmk_o (by decide) (by decide))⟩ (zall_cons ⟨_, fh41_3, (nmk_a (by simp))⟩ zall_nil))
          have ph46_2 : ∀ q ∈ List.map zEn.k es, zel h46 q := zels.keep k50 pz43
          have ph46_3 : tyA h46 es ct := tyA.keep k50 (zall_cons (fun x z => by rw [fh41_2] at z; simp at z) (zall_cons (fun x z => by rw [fh41_3] at z; simp at z) zall_nil)) pz44
          have ph46_4 : kAt h46 a34 (scode (shr c_33.2.2.1 fr) c_33.2.2.2.1 (shb c_33.2.2.1 c_33.2.2.2.2)) := kAt.keep k50 pz45
          show Z X h46 ((((5 * (40 - i.toNat) + bLC cap2 41 - 1) - 1) - 3) - lC cap2 ((List.map zEn.k es).length + 1)) ((((136 * (40 - i.toNat) + bLS cap2 41 - 3) - 1) - 132) - lS cap2 ((List.map zEn.k es).length + 1)) [(8, .ref a39), (7, .ref a34), (6, .int (iI i)), (5, .ref qL), (4, .int (iI sm)), (3, .ref a5), (2, .ref a1), (1, .int (iI fr)), (0, .ref s)] 95 [.int (iI 1)]
          have hx_51 := hl48
          obtain ⟨m_51, f_51, la_51, le_51, lz_51, lt_51, ln_51, lc_51, lx_51, lq_51⟩ := hx_51
          refine z_pop (pc := 95) C dX2_difficulty_95 rfl ?_
          have htyA := (ph46_3).app (e := ((n_42, a34, a39, (scode (shr c_33.2.2.1 fr) c_33.2.2.2.1 (shb c_33.2.2.1 c_33.2.2.2.2))) : zEn)) (n := 0) fh46_4
          have hsw0 := swt_app (e := ((n_42, a34, a39, (scode (shr c_33.2.2.1 fr) c_33.2.2.2.1 (shb c_33.2.2.1 c_33.2.2.2.2))) : zEn)) (ph46_3)
          have hvnN : ((es ++ [((n_42, a34, a39, (scode (shr c_33.2.2.1 fr) c_33.2.2.2.1 (shb c_33.2.2.1 c_33.2.2.2.2))) : zEn)]).map zEn.v).Nodup := by
            rw [List.map_append, List.nodup_append]
            refine ⟨hvn, by simp, fun a ha b hb e => ?_⟩
            obtain ⟨d, hd, rfl⟩ := List.mem_map.mp ha
            simp only [List.map_cons, List.map_nil, List.mem_cons, List.not_mem_nil, or_false] at hb
            have e' : d.v = a39 := e.trans hb
            exact hvt d hd e'
          have hvfN : ∀ e ∈ es ++ [((n_42, a34, a39, (scode (shr c_33.2.2.1 fr) c_33.2.2.2.1 (shb c_33.2.2.1 c_33.2.2.2.2))) : zEn)], h e.v = none := fun e he => by
            rcases List.mem_append.mp he with q | q
            · exact hvf e q
            · rw [List.mem_singleton.mp q]; exact na39
          obtain ⟨nT, hT1, hT2⟩ := htyA.up (e := ((n_42, a34, a39, (scode (shr c_33.2.2.1 fr) c_33.2.2.2.1 (shb c_33.2.2.1 c_33.2.2.2.2))) : zEn)) (by simp) hvnN
          have hT1 : h46 a39 = some (true, .inr (8, [.int (iI nT)])) := hT1
          have hsx : sdf (zEn.c ((n_42, a34, a39, (scode (shr c_33.2.2.1 fr) c_33.2.2.2.1 (shb c_33.2.2.1 c_33.2.2.2.2))) : zEn) / 20) (zEn.c ((n_42, a34, a39, (scode (shr c_33.2.2.1 fr) c_33.2.2.2.1 (shb c_33.2.2.1 c_33.2.2.2.2))) : zEn) / 2 % 10) (zEn.c ((n_42, a34, a39, (scode (shr c_33.2.2.1 fr) c_33.2.2.2.1 (shb c_33.2.2.1 c_33.2.2.2.2))) : zEn) % 2) = sdx fr c_33 := scode_d yq6 hr4_33 yq7
          refine z_aload (pc := 96) (j := 0) C dX2_difficulty_96 rfl ?_
          refine z_dup (pc := 98) C dX2_difficulty_98 rfl ?_
          refine z_getfieldN (pc := 99) (v := .int (iI nT)) C in_X9 rfl 0 (by decide) q1467 (fun _ z => z) hT1 rfl dX2_difficulty_99 ?_
          refine z_iconst (pc := 102) C dX2_difficulty_102 ?_
          refine z_iadd (pc := 103) C dX2_difficulty_103 ?_
          refine z_putfieldN (pc := 104) (fs' := [.int (iI (nT + 1))]) C in_X9 tyX9 tyX9_ok nmX9 rfl 0 (by decide) q1467 (fun _ z => z) rfl rfl rfl (Nat.le_of_ble_eq_true rfl) hT1 rfl dX2_difficulty_104 ?_
          refine Z.nm (fun h52 eh52 => ?_)
          have kh52 : zkeep h h52 [] := by rw [eh52]; exact zkeep.up kh46 (Or.inr na39) hT1
          have fh52_0 : h52 a39 = some (true, .inr (8, [.int (iI (nT + 1))])) := zse eh52
          have fh52_1 : h52 qL = some (false, .inr (7, [.int (iI (shr xL.2.2.1 fr)), .int (iI xL.2.2.2.1), .int (iI (shb xL.2.2.1 xL.2.2.2.2))])) := zsn eh52 fh46_1 (zneF fh35_1 fa39)
          have fh52_2 : h52 q_33 = some (false, .inr (6, [.int (iI c_33.1), .int (iI c_33.2.1), .int (iI c_33.2.2.1), .int (iI c_33.2.2.2.1), .int (iI c_33.2.2.2.2)])) := zsn eh52 fh46_2 (zneF fh35_5 fa39)
          have fh52_3 : h52 a34 = some (false, .inr (7, [.int (iI (shr c_33.2.2.1 fr)), .int (iI c_33.2.2.2.1), .int (iI (shb c_33.2.2.1 c_33.2.2.2.2))])) := zsn eh52 fh46_3 (zneF fka34 fa39)
          have fh52_4 : h52 a1 = some (true, .inr (14, [.null, .null, .ref tb_42, .null, .int (iI (((es ++ [((n_42, a34, a39, (scode (shr c_33.2.2.1 fr) c_33.2.2.2.1 (shb c_33.2.2.1 c_33.2.2.2.2))) : zEn)]).length : Nat) : Int)), .int (iI mcC), .int (iI ((cap_42 - cap_42 / 4 : Nat) : Int)), .float 1061158912])) := zsn eh52 fh46_5 (zneF fh35_2 fa39)
          have fh52_5 : h52 a5 = some (true, .inr (10, [.int (iI m_51), .ref e47, .int (iI (((List.map zEn.k es ++ [a34]).length : Nat) : Int))])) := zsn eh52 la_51 (zneF fh35_3 fa39)
          have fh52_6 : h52 e47 = some ((decide (lcap cap2 ((List.map zEn.k es).length + 1) ≠ 0)), .inl ((.object "java/lang/Object"), lcap cap2 ((List.map zEn.k es).length + 1), f_51)) := zsn eh52 le_51 (Ne.symm (zneA hT1 le_51))
          have sh52 : zkeep h46 h52 [a39] := zkeep.one eh52 hT1
          have ph52_1 : mpA h52 a1 tb_42 cap_42 (es ++ [((n_42, a34, a39, (scode (shr c_33.2.2.1 fr) c_33.2.2.2.1 (shb c_33.2.2.1 c_33.2.2.2.2))) : zEn)]) (((es ++ [((n_42, a34, a39, (scode (shr c_33.2.2.1 fr) c_33.2.2.2.1 (shb c_33.2.2.1 c_33.2.2.2.2))) : zEn)]).length : Nat) : Int) (.float 1061158912) := mpA.keep ph46_1 sh52 (zall_cons ⟨_, hT1, (nmk_o (by decide) (by decide))⟩ zall_nil)
          have ph52_2 : ∀ q ∈ List.map zEn.k es ++ [a34], zel h52 q := zels.keep sh52 lq_51
          have ph52_3 : kAt h52 a34 (scode (shr c_33.2.2.1 fr) c_33.2.2.2.1 (shb c_33.2.2.1 c_33.2.2.2.2)) := kAt.keep sh52 ph46_4
          obtain ⟨ctN, htyN, hswN0⟩ := hT2 _ sh52 fh52_0
          have hswN : swt (es ++ [((n_42, a34, a39, (scode (shr c_33.2.2.1 fr) c_33.2.2.2.1 (shb c_33.2.2.1 c_33.2.2.2.2))) : zEn)]) ctN + sds fr (cs.drop (i + 1).toNat) = sds fr cs := by
            rw [hds, sds] at hsw
            rw [hsw0] at hswN0
            rw [hsx] at hswN0
            omega
          refine z_iload (pc := 107) (j := 4) C dX2_difficulty_107 rfl ?_
          refine z_aload (pc := 109) (j := 3) C dX2_difficulty_109 rfl ?_
          refine z_ifnull (pc := 111) C dX2_difficulty_111 ?_
          refine z_aload (pc := 114) (j := 3) C dX2_difficulty_114 rfl ?_
          refine z_callV (pc := 116) (n := 0) (kc' := ((((5 * (40 - i.toNat) + bLC cap2 41 - 1) - 1) - 3) - lC cap2 ((List.map zEn.k es).length + 1))) (ks' := ((((136 * (40 - i.toNat) + bLS cap2 41 - 3) - 1) - 132) - lS cap2 ((List.map zEn.k es).length + 1))) C (ct_H_easy C.t fh52_1 (by omega) (by omega) (by omega)) (lw_V q1611 q1612 q1613 q98 q1614) (by decide +kernel) ⟨by decide, by decide⟩ fh52_1 rfl rfl rfl (Nat.le_of_ble_eq_true rfl) dX2_difficulty_116 (by omega) (by omega) (zpk (st' := [.int (iI (iez (shr xL.2.2.1 fr) xL.2.2.2.1)), .int (iI sm)]) rfl ?_) zrx
          have hz1 := iez_r (shr xL.2.2.1 fr) xL.2.2.2.1
          have hz3 := iez_r (shr c_33.2.2.1 fr) c_33.2.2.2.1
          refine z_if_ne (pc := 119) (tgt := 147) C dX2_difficulty_119 (by decide) (by omega) (fun c119 => ?_) (fun c119 => ?_)
          · refine z_iconst (pc := 147) C dX2_difficulty_147 ?_
            refine z_iadd (pc := 148) C dX2_difficulty_148 ?_
            have htr : trd fr xL c_33 = 0 := by unfold trd; split <;> omega
            have hsmN : sm + 0 + trs fr (some c_33) (cs.drop (i + 1).toNat) = fr + trs fr none cs := by rw [hds, trs, htr] at hsm; omega
            refine z_istore (pc := 149) (L' := [(4, .int (iI (sm + 0))), (8, .ref a39), (7, .ref a34), (6, .int (iI i)), (5, .ref qL), (3, .ref a5), (2, .ref a1), (1, .int (iI fr)), (0, .ref s)]) C dX2_difficulty_149 (by rw [hnL]; decide) rfl ?_
            refine z_aload (pc := 151) (j := 2) C dX2_difficulty_151 rfl ?_
            refine z_astore (pc := 153) (L' := [(5, .ref a34), (4, .int (iI (sm + 0))), (8, .ref a39), (7, .ref a34), (6, .int (iI i)), (3, .ref a5), (2, .ref a1), (1, .int (iI fr)), (0, .ref s)]) C dX2_difficulty_153 (by rw [hnL]; decide) rfl ?_
            refine z_iinc (pc := 155) (k := 4) (L' := [(6, .int (iI (i + 1))), (5, .ref a34), (4, .int (iI (sm + 0))), (8, .ref a39), (7, .ref a34), (3, .ref a5), (2, .ref a1), (1, .int (iI fr)), (0, .ref s)]) C dX2_difficulty_155 rfl (by rw [hnL]; decide) rfl ?_
            refine z_goto (pc := 158) (tgt := 25) C dX2_difficulty_158 (by decide) ?_
            refine Z.weak (L' := [(6, .int (iI (i + 1))), (5, .ref a34), (4, .int (iI (sm + 0))), (3, .ref a5), (2, .ref a1), (1, .int (iI fr)), (0, .ref s)]) (kc' := 5 * (40 - (i + 1).toNat) + bLC (lcap cap2 ((List.map zEn.k es).length + 1)) 41) (ks' := 136 * (40 - (i + 1).toNat) + bLS (lcap cap2 ((List.map zEn.k es).length + 1)) 41) [0, 1, 2, 5, 6, 7, 8] rfl (by omega) (by omega) ?_
            exact ih25 _ (by omega) (i + 1) h52 (sm + 0) (.ref a34) (some c_33) (es ++ [((n_42, a34, a39, (scode (shr c_33.2.2.1 fr) c_33.2.2.2.1 (shb c_33.2.2.1 c_33.2.2.2.2))) : zEn)]) ctN tb_42 cap_42 e47 (lcap cap2 ((List.map zEn.k es).length + 1)) (by omega) kh52 (Or.inr ⟨ph52_1, hfr_42.2, c_33, a34, rfl, rfl, fh52_3, hr_33⟩) (by rw [List.map_append]; exact (lAt.mk (cap := lcap cap2 ((List.map zEn.k es).length + 1)) rfl rfl rfl fh52_5 fh52_6 lz_51 lt_51 ln_51 lc_51 lx_51 ph52_2)) (Or.inl de47) htyN hvnN hvfN hsmN hswN (by simp only [List.length_append, List.length_cons, List.length_nil]; omega) rfl
          · refine z_aload (pc := 122) (j := 1) C dX2_difficulty_122 rfl ?_
            refine z_callV (pc := 124) (n := 0) (kc' := ((((5 * (40 - i.toNat) + bLC cap2 41 - 1) - 1) - 3) - lC cap2 ((List.map zEn.k es).length + 1))) (ks' := ((((136 * (40 - i.toNat) + bLS cap2 41 - 3) - 1) - 132) - lS cap2 ((List.map zEn.k es).length + 1))) C (ct_H_easy C.t fh52_3 (by omega) (by omega) (by omega)) (lw_V q1611 q1612 q1613 q98 q1614) (by decide +kernel) ⟨by decide, by decide⟩ fh52_3 rfl rfl rfl (Nat.le_of_ble_eq_true rfl) dX2_difficulty_124 (by omega) (by omega) (zpk (st' := [.int (iI (iez (shr c_33.2.2.1 fr) c_33.2.2.2.1)), .int (iI sm)]) rfl ?_) zrx
            refine z_if_ne (pc := 127) (tgt := 147) C dX2_difficulty_127 (by decide) (by omega) (fun c127 => ?_) (fun c127 => ?_)
            · refine z_iconst (pc := 147) C dX2_difficulty_147 ?_
              refine z_iadd (pc := 148) C dX2_difficulty_148 ?_
              have htr : trd fr xL c_33 = 0 := by unfold trd; split <;> omega
              have hsmN : sm + 0 + trs fr (some c_33) (cs.drop (i + 1).toNat) = fr + trs fr none cs := by rw [hds, trs, htr] at hsm; omega
              refine z_istore (pc := 149) (L' := [(4, .int (iI (sm + 0))), (8, .ref a39), (7, .ref a34), (6, .int (iI i)), (5, .ref qL), (3, .ref a5), (2, .ref a1), (1, .int (iI fr)), (0, .ref s)]) C dX2_difficulty_149 (by rw [hnL]; decide) rfl ?_
              refine z_aload (pc := 151) (j := 2) C dX2_difficulty_151 rfl ?_
              refine z_astore (pc := 153) (L' := [(5, .ref a34), (4, .int (iI (sm + 0))), (8, .ref a39), (7, .ref a34), (6, .int (iI i)), (3, .ref a5), (2, .ref a1), (1, .int (iI fr)), (0, .ref s)]) C dX2_difficulty_153 (by rw [hnL]; decide) rfl ?_
              refine z_iinc (pc := 155) (k := 4) (L' := [(6, .int (iI (i + 1))), (5, .ref a34), (4, .int (iI (sm + 0))), (8, .ref a39), (7, .ref a34), (3, .ref a5), (2, .ref a1), (1, .int (iI fr)), (0, .ref s)]) C dX2_difficulty_155 rfl (by rw [hnL]; decide) rfl ?_
              refine z_goto (pc := 158) (tgt := 25) C dX2_difficulty_158 (by decide) ?_
              refine Z.weak (L' := [(6, .int (iI (i + 1))), (5, .ref a34), (4, .int (iI (sm + 0))), (3, .ref a5), (2, .ref a1), (1, .int (iI fr)), (0, .ref s)]) (kc' := 5 * (40 - (i + 1).toNat) + bLC (lcap cap2 ((List.map zEn.k es).length + 1)) 41) (ks' := 136 * (40 - (i + 1).toNat) + bLS (lcap cap2 ((List.map zEn.k es).length + 1)) 41) [0, 1, 2, 5, 6, 7, 8] rfl (by omega) (by omega) ?_
              exact ih25 _ (by omega) (i + 1) h52 (sm + 0) (.ref a34) (some c_33) (es ++ [((n_42, a34, a39, (scode (shr c_33.2.2.1 fr) c_33.2.2.2.1 (shb c_33.2.2.1 c_33.2.2.2.2))) : zEn)]) ctN tb_42 cap_42 e47 (lcap cap2 ((List.map zEn.k es).length + 1)) (by omega) kh52 (Or.inr ⟨ph52_1, hfr_42.2, c_33, a34, rfl, rfl, fh52_3, hr_33⟩) (by rw [List.map_append]; exact (lAt.mk (cap := lcap cap2 ((List.map zEn.k es).length + 1)) rfl rfl rfl fh52_5 fh52_6 lz_51 lt_51 ln_51 lc_51 lx_51 ph52_2)) (Or.inl de47) htyN hvnN hvfN hsmN hswN (by simp only [List.length_append, List.length_cons, List.length_nil]; omega) rfl
            · refine z_aload (pc := 130) (j := 3) C dX2_difficulty_130 rfl ?_
              refine z_getfieldN (pc := 132) (v := .int (iI (shr xL.2.2.1 fr))) C in_X8 rfl 0 (by decide) q1123 (fun _ z => z) fh52_1 rfl dX2_difficulty_132 ?_
              refine z_aload (pc := 135) (j := 1) C dX2_difficulty_135 rfl ?_
              refine z_getfieldN (pc := 137) (v := .int (iI (shr c_33.2.2.1 fr))) C in_X8 rfl 0 (by decide) q1123 (fun _ z => z) fh52_3 rfl dX2_difficulty_137 ?_
              refine z_icmp_eq (pc := 140) (tgt := 147) C dX2_difficulty_140 (by decide) (by omega) (by omega) (fun c140 => ?_) (fun c140 => ?_)
              · refine z_iconst (pc := 147) C dX2_difficulty_147 ?_
                refine z_iadd (pc := 148) C dX2_difficulty_148 ?_
                have htr : trd fr xL c_33 = 0 := by unfold trd; split <;> omega
                have hsmN : sm + 0 + trs fr (some c_33) (cs.drop (i + 1).toNat) = fr + trs fr none cs := by rw [hds, trs, htr] at hsm; omega
                refine z_istore (pc := 149) (L' := [(4, .int (iI (sm + 0))), (8, .ref a39), (7, .ref a34), (6, .int (iI i)), (5, .ref qL), (3, .ref a5), (2, .ref a1), (1, .int (iI fr)), (0, .ref s)]) C dX2_difficulty_149 (by rw [hnL]; decide) rfl ?_
                refine z_aload (pc := 151) (j := 2) C dX2_difficulty_151 rfl ?_
                refine z_astore (pc := 153) (L' := [(5, .ref a34), (4, .int (iI (sm + 0))), (8, .ref a39), (7, .ref a34), (6, .int (iI i)), (3, .ref a5), (2, .ref a1), (1, .int (iI fr)), (0, .ref s)]) C dX2_difficulty_153 (by rw [hnL]; decide) rfl ?_
                refine z_iinc (pc := 155) (k := 4) (L' := [(6, .int (iI (i + 1))), (5, .ref a34), (4, .int (iI (sm + 0))), (8, .ref a39), (7, .ref a34), (3, .ref a5), (2, .ref a1), (1, .int (iI fr)), (0, .ref s)]) C dX2_difficulty_155 rfl (by rw [hnL]; decide) rfl ?_
                refine z_goto (pc := 158) (tgt := 25) C dX2_difficulty_158 (by decide) ?_
                refine Z.weak (L' := [(6, .int (iI (i + 1))), (5, .ref a34), (4, .int (iI (sm + 0))), (3, .ref a5), (2, .ref a1), (1, .int (iI fr)), (0, .ref s)]) (kc' := 5 * (40 - (i + 1).toNat) + bLC (lcap cap2 ((List.map zEn.k es).length + 1)) 41) (ks' := 136 * (40 - (i + 1).toNat) + bLS (lcap cap2 ((List.map zEn.k es).length + 1)) 41) [0, 1, 2, 5, 6, 7, 8] rfl (by omega) (by omega) ?_
                exact ih25 _ (by omega) (i + 1) h52 (sm + 0) (.ref a34) (some c_33) (es ++ [((n_42, a34, a39, (scode (shr c_33.2.2.1 fr) c_33.2.2.2.1 (shb c_33.2.2.1 c_33.2.2.2.2))) : zEn)]) ctN tb_42 cap_42 e47 (lcap cap2 ((List.map zEn.k es).length + 1)) (by omega) kh52 (Or.inr ⟨ph52_1, hfr_42.2, c_33, a34, rfl, rfl, fh52_3, hr_33⟩) (by rw [List.map_append]; exact (lAt.mk (cap := lcap cap2 ((List.map zEn.k es).length + 1)) rfl rfl rfl fh52_5 fh52_6 lz_51 lt_51 ln_51 lc_51 lx_51 ph52_2)) (Or.inl de47) htyN hvnN hvfN hsmN hswN (by simp only [List.length_append, List.length_cons, List.length_nil]; omega) rfl
              · refine z_iconst (pc := 143) C dX2_difficulty_143 ?_
                refine z_goto (pc := 144) (tgt := 148) C dX2_difficulty_144 (by decide) ?_
                refine z_iadd (pc := 148) C dX2_difficulty_148 ?_
                have htr : trd fr xL c_33 = 1 := by unfold trd; split <;> omega
                have hsmN : sm + 1 + trs fr (some c_33) (cs.drop (i + 1).toNat) = fr + trs fr none cs := by rw [hds, trs, htr] at hsm; omega
                refine z_istore (pc := 149) (L' := [(4, .int (iI (sm + 1))), (8, .ref a39), (7, .ref a34), (6, .int (iI i)), (5, .ref qL), (3, .ref a5), (2, .ref a1), (1, .int (iI fr)), (0, .ref s)]) C dX2_difficulty_149 (by rw [hnL]; decide) rfl ?_
                refine z_aload (pc := 151) (j := 2) C dX2_difficulty_151 rfl ?_
                refine z_astore (pc := 153) (L' := [(5, .ref a34), (4, .int (iI (sm + 1))), (8, .ref a39), (7, .ref a34), (6, .int (iI i)), (3, .ref a5), (2, .ref a1), (1, .int (iI fr)), (0, .ref s)]) C dX2_difficulty_153 (by rw [hnL]; decide) rfl ?_
                refine z_iinc (pc := 155) (k := 4) (L' := [(6, .int (iI (i + 1))), (5, .ref a34), (4, .int (iI (sm + 1))), (8, .ref a39), (7, .ref a34), (3, .ref a5), (2, .ref a1), (1, .int (iI fr)), (0, .ref s)]) C dX2_difficulty_155 rfl (by rw [hnL]; decide) rfl ?_
                refine z_goto (pc := 158) (tgt := 25) C dX2_difficulty_158 (by decide) ?_
                refine Z.weak (L' := [(6, .int (iI (i + 1))), (5, .ref a34), (4, .int (iI (sm + 1))), (3, .ref a5), (2, .ref a1), (1, .int (iI fr)), (0, .ref s)]) (kc' := 5 * (40 - (i + 1).toNat) + bLC (lcap cap2 ((List.map zEn.k es).length + 1)) 41) (ks' := 136 * (40 - (i + 1).toNat) + bLS (lcap cap2 ((List.map zEn.k es).length + 1)) 41) [0, 1, 2, 5, 6, 7, 8] rfl (by omega) (by omega) ?_
                exact ih25 _ (by omega) (i + 1) h52 (sm + 1) (.ref a34) (some c_33) (es ++ [((n_42, a34, a39, (scode (shr c_33.2.2.1 fr) c_33.2.2.2.1 (shb c_33.2.2.1 c_33.2.2.2.2))) : zEn)]) ctN tb_42 cap_42 e47 (lcap cap2 ((List.map zEn.k es).length + 1)) (by omega) kh52 (Or.inr ⟨ph52_1, hfr_42.2, c_33, a34, rfl, rfl, fh52_3, hr_33⟩) (by rw [List.map_append]; exact (lAt.mk (cap := lcap cap2 ((List.map zEn.k es).length + 1)) rfl rfl rfl fh52_5 fh52_6 lz_51 lt_51 ln_51 lc_51 lx_51 ph52_2)) (Or.inl de47) htyN hvnN hvfN hsmN hswN (by simp only [List.length_append, List.length_cons, List.length_nil]; omega) rfl
        · subst hg3
          obtain ⟨nT, hT1, hT2⟩ := (ph35_3).up hge hvn
          have hvE := hvf eG hge
          show Z X h35 (5 * (40 - i.toNat) + bLC cap2 41 - 1) (136 * (40 - i.toNat) + bLS cap2 41 - 3) [(7, .ref a34), (6, .int (iI i)), (5, .ref qL), (4, .int (iI sm)), (3, .ref a5), (2, .ref a1), (1, .int (iI fr)), (0, .ref s)] 61 [.ref eG.v]
          refine z_castS (pc := 61) C q1461 rfl hT1 dX2_difficulty_61 ?_
          refine z_astore (pc := 64) (L' := [(8, .ref eG.v), (7, .ref a34), (6, .int (iI i)), (5, .ref qL), (4, .int (iI sm)), (3, .ref a5), (2, .ref a1), (1, .int (iI fr)), (0, .ref s)]) C dX2_difficulty_64 (by rw [hnL]; decide) rfl ?_
          refine z_aload (pc := 66) (j := 0) C dX2_difficulty_66 rfl ?_
          refine z_ifnonnull (pc := 68) (tgt := 96) C dX2_difficulty_68 (by decide) ?_
          have hsx : sdf (eG.c / 20) (eG.c / 2 % 10) (eG.c % 2) = sdx fr c_33 := by rw [hgc]; exact scode_d yq6 hr4_33 yq7
          refine z_aload (pc := 96) (j := 0) C dX2_difficulty_96 rfl ?_
          refine z_dup (pc := 98) C dX2_difficulty_98 rfl ?_
          refine z_getfieldN (pc := 99) (v := .int (iI nT)) C in_X9 rfl 0 (by decide) q1467 (fun _ z => z) hT1 rfl dX2_difficulty_99 ?_
          refine z_iconst (pc := 102) C dX2_difficulty_102 ?_
          refine z_iadd (pc := 103) C dX2_difficulty_103 ?_
          refine z_putfieldN (pc := 104) (fs' := [.int (iI (nT + 1))]) C in_X9 tyX9 tyX9_ok nmX9 rfl 0 (by decide) q1467 (fun _ z => z) rfl rfl rfl (Nat.le_of_ble_eq_true rfl) hT1 rfl dX2_difficulty_104 ?_
          refine Z.nm (fun h53 eh53 => ?_)
          have kh53 : zkeep h h53 [] := by rw [eh53]; exact zkeep.up kh35 (Or.inr hvE) hT1
          have fh53_0 : h53 eG.v = some (true, .inr (8, [.int (iI (nT + 1))])) := zse eh53
          have fh53_1 : h53 qL = some (false, .inr (7, [.int (iI (shr xL.2.2.1 fr)), .int (iI xL.2.2.2.1), .int (iI (shb xL.2.2.1 xL.2.2.2.2))])) := zsn eh53 fh35_1 (zneW fh35_1 hT1)
          have fh53_2 : h53 a1 = some (true, .inr (14, [.null, .null, .ref tb, .null, .int (iI ((es.length : Nat) : Int)), .int (iI mcB), .int (iI ((cap0 - cap0 / 4 : Nat) : Int)), .float 1061158912])) := zsn eh53 fh35_2 (zneC fh35_2 hT1 (by decide))
          have fh53_3 : h53 a5 = some (true, .inr (10, [.int (iI m_30), .ref u2, .int (iI (((List.map zEn.k es).length : Nat) : Int))])) := zsn eh53 fh35_3 (zneC fh35_3 hT1 (by decide))
          have fh53_4 : h53 u2 = some ((decide (cap2 ≠ 0)), .inl ((.object "java/lang/Object"), cap2, f_30)) := zsn eh53 fh35_4 (Ne.symm (zneA hT1 fh35_4))
          have fh53_5 : h53 q_33 = some (false, .inr (6, [.int (iI c_33.1), .int (iI c_33.2.1), .int (iI c_33.2.2.1), .int (iI c_33.2.2.2.1), .int (iI c_33.2.2.2.2)])) := zsn eh53 fh35_5 (zneW fh35_5 hT1)
          have fh53_6 : h53 a34 = some (false, .inr (7, [.int (iI (shr c_33.2.2.1 fr)), .int (iI c_33.2.2.2.1), .int (iI (shb c_33.2.2.1 c_33.2.2.2.2))])) := zsn eh53 fka34 (zneW fka34 hT1)
          have sh53 : zkeep h35 h53 [eG.v] := zkeep.one eh53 hT1
          have ph53_1 : mpA h53 a1 tb cap0 es ((es.length : Nat) : Int) (.float 1061158912) := mpA.keep ph35_1 sh53 (zall_cons ⟨_, hT1, (nmk_o (by decide) (by decide))⟩ zall_nil)
          have ph53_2 : ∀ q ∈ List.map zEn.k es, zel h53 q := zels.keep sh53 ph35_2
          have ph53_3 : kAt h53 a34 (scode (shr c_33.2.2.1 fr) c_33.2.2.2.1 (shb c_33.2.2.1 c_33.2.2.2.2)) := kAt.keep sh53 hk7
          obtain ⟨ctN, htyN, hswN0⟩ := hT2 _ sh53 fh53_0
          have hswN : swt es ctN + sds fr (cs.drop (i + 1).toNat) = sds fr cs := by
            rw [hds, sds] at hsw
            skip
            rw [hsx] at hswN0
            omega
          refine z_iload (pc := 107) (j := 4) C dX2_difficulty_107 rfl ?_
          refine z_aload (pc := 109) (j := 3) C dX2_difficulty_109 rfl ?_
          refine z_ifnull (pc := 111) C dX2_difficulty_111 ?_
          refine z_aload (pc := 114) (j := 3) C dX2_difficulty_114 rfl ?_
          refine z_callV (pc := 116) (n := 0) (kc' := (5 * (40 - i.toNat) + bLC cap2 41 - 1)) (ks' := (136 * (40 - i.toNat) + bLS cap2 41 - 3)) C (ct_H_easy C.t fh53_1 (by omega) (by omega) (by omega)) (lw_V q1611 q1612 q1613 q98 q1614) (by decide +kernel) ⟨by decide, by decide⟩ fh53_1 rfl rfl rfl (Nat.le_of_ble_eq_true rfl) dX2_difficulty_116 (by omega) (by omega) (zpk (st' := [.int (iI (iez (shr xL.2.2.1 fr) xL.2.2.2.1)), .int (iI sm)]) rfl ?_) zrx
          have hz1 := iez_r (shr xL.2.2.1 fr) xL.2.2.2.1
          have hz3 := iez_r (shr c_33.2.2.1 fr) c_33.2.2.2.1
          refine z_if_ne (pc := 119) (tgt := 147) C dX2_difficulty_119 (by decide) (by omega) (fun c119 => ?_) (fun c119 => ?_)
          · refine z_iconst (pc := 147) C dX2_difficulty_147 ?_
            refine z_iadd (pc := 148) C dX2_difficulty_148 ?_
            have htr : trd fr xL c_33 = 0 := by unfold trd; split <;> omega
            have hsmN : sm + 0 + trs fr (some c_33) (cs.drop (i + 1).toNat) = fr + trs fr none cs := by rw [hds, trs, htr] at hsm; omega
            refine z_istore (pc := 149) (L' := [(4, .int (iI (sm + 0))), (8, .ref eG.v), (7, .ref a34), (6, .int (iI i)), (5, .ref qL), (3, .ref a5), (2, .ref a1), (1, .int (iI fr)), (0, .ref s)]) C dX2_difficulty_149 (by rw [hnL]; decide) rfl ?_
            refine z_aload (pc := 151) (j := 2) C dX2_difficulty_151 rfl ?_
            refine z_astore (pc := 153) (L' := [(5, .ref a34), (4, .int (iI (sm + 0))), (8, .ref eG.v), (7, .ref a34), (6, .int (iI i)), (3, .ref a5), (2, .ref a1), (1, .int (iI fr)), (0, .ref s)]) C dX2_difficulty_153 (by rw [hnL]; decide) rfl ?_
            refine z_iinc (pc := 155) (k := 4) (L' := [(6, .int (iI (i + 1))), (5, .ref a34), (4, .int (iI (sm + 0))), (8, .ref eG.v), (7, .ref a34), (3, .ref a5), (2, .ref a1), (1, .int (iI fr)), (0, .ref s)]) C dX2_difficulty_155 rfl (by rw [hnL]; decide) rfl ?_
            refine z_goto (pc := 158) (tgt := 25) C dX2_difficulty_158 (by decide) ?_
            refine Z.weak (L' := [(6, .int (iI (i + 1))), (5, .ref a34), (4, .int (iI (sm + 0))), (3, .ref a5), (2, .ref a1), (1, .int (iI fr)), (0, .ref s)]) (kc' := 5 * (40 - (i + 1).toNat) + bLC cap2 41) (ks' := 136 * (40 - (i + 1).toNat) + bLS cap2 41) [0, 1, 2, 5, 6, 7, 8] rfl (by omega) (by omega) ?_
            exact ih25 _ (by omega) (i + 1) h53 (sm + 0) (.ref a34) (some c_33) es ctN tb cap0 u2 cap2 (by omega) kh53 (Or.inr ⟨ph53_1, hs2, c_33, a34, rfl, rfl, fh53_6, hr_33⟩) (lAt.mk (cap := cap2) rfl rfl rfl fh53_3 fh53_4 lz_30 lt_30 ln_30 lc_30 lx_30 ph53_2) hml htyN hvn hvf hsmN hswN (by omega) rfl
          · refine z_aload (pc := 122) (j := 1) C dX2_difficulty_122 rfl ?_
            refine z_callV (pc := 124) (n := 0) (kc' := (5 * (40 - i.toNat) + bLC cap2 41 - 1)) (ks' := (136 * (40 - i.toNat) + bLS cap2 41 - 3)) C (ct_H_easy C.t fh53_6 (by omega) (by omega) (by omega)) (lw_V q1611 q1612 q1613 q98 q1614) (by decide +kernel) ⟨by decide, by decide⟩ fh53_6 rfl rfl rfl (Nat.le_of_ble_eq_true rfl) dX2_difficulty_124 (by omega) (by omega) (zpk (st' := [.int (iI (iez (shr c_33.2.2.1 fr) c_33.2.2.2.1)), .int (iI sm)]) rfl ?_) zrx
            refine z_if_ne (pc := 127) (tgt := 147) C dX2_difficulty_127 (by decide) (by omega) (fun c127 => ?_) (fun c127 => ?_)
            · refine z_iconst (pc := 147) C dX2_difficulty_147 ?_
              refine z_iadd (pc := 148) C dX2_difficulty_148 ?_
              have htr : trd fr xL c_33 = 0 := by unfold trd; split <;> omega
              have hsmN : sm + 0 + trs fr (some c_33) (cs.drop (i + 1).toNat) = fr + trs fr none cs := by rw [hds, trs, htr] at hsm; omega
              refine z_istore (pc := 149) (L' := [(4, .int (iI (sm + 0))), (8, .ref eG.v), (7, .ref a34), (6, .int (iI i)), (5, .ref qL), (3, .ref a5), (2, .ref a1), (1, .int (iI fr)), (0, .ref s)]) C dX2_difficulty_149 (by rw [hnL]; decide) rfl ?_
              refine z_aload (pc := 151) (j := 2) C dX2_difficulty_151 rfl ?_
              refine z_astore (pc := 153) (L' := [(5, .ref a34), (4, .int (iI (sm + 0))), (8, .ref eG.v), (7, .ref a34), (6, .int (iI i)), (3, .ref a5), (2, .ref a1), (1, .int (iI fr)), (0, .ref s)]) C dX2_difficulty_153 (by rw [hnL]; decide) rfl ?_
              refine z_iinc (pc := 155) (k := 4) (L' := [(6, .int (iI (i + 1))), (5, .ref a34), (4, .int (iI (sm + 0))), (8, .ref eG.v), (7, .ref a34), (3, .ref a5), (2, .ref a1), (1, .int (iI fr)), (0, .ref s)]) C dX2_difficulty_155 rfl (by rw [hnL]; decide) rfl ?_
              refine z_goto (pc := 158) (tgt := 25) C dX2_difficulty_158 (by decide) ?_
              refine Z.weak (L' := [(6, .int (iI (i + 1))), (5, .ref a34), (4, .int (iI (sm + 0))), (3, .ref a5), (2, .ref a1), (1, .int (iI fr)), (0, .ref s)]) (kc' := 5 * (40 - (i + 1).toNat) + bLC cap2 41) (ks' := 136 * (40 - (i + 1).toNat) + bLS cap2 41) [0, 1, 2, 5, 6, 7, 8] rfl (by omega) (by omega) ?_
              exact ih25 _ (by omega) (i + 1) h53 (sm + 0) (.ref a34) (some c_33) es ctN tb cap0 u2 cap2 (by omega) kh53 (Or.inr ⟨ph53_1, hs2, c_33, a34, rfl, rfl, fh53_6, hr_33⟩) (lAt.mk (cap := cap2) rfl rfl rfl fh53_3 fh53_4 lz_30 lt_30 ln_30 lc_30 lx_30 ph53_2) hml htyN hvn hvf hsmN hswN (by omega) rfl
            · refine z_aload (pc := 130) (j := 3) C dX2_difficulty_130 rfl ?_
              refine z_getfieldN (pc := 132) (v := .int (iI (shr xL.2.2.1 fr))) C in_X8 rfl 0 (by decide) q1123 (fun _ z => z) fh53_1 rfl dX2_difficulty_132 ?_
              refine z_aload (pc := 135) (j := 1) C dX2_difficulty_135 rfl ?_
              refine z_getfieldN (pc := 137) (v := .int (iI (shr c_33.2.2.1 fr))) C in_X8 rfl 0 (by decide) q1123 (fun _ z => z) fh53_6 rfl dX2_difficulty_137 ?_
              refine z_icmp_eq (pc := 140) (tgt := 147) C dX2_difficulty_140 (by decide) (by omega) (by omega) (fun c140 => ?_) (fun c140 => ?_)
              · refine z_iconst (pc := 147) C dX2_difficulty_147 ?_
                refine z_iadd (pc := 148) C dX2_difficulty_148 ?_
                have htr : trd fr xL c_33 = 0 := by unfold trd; split <;> omega
                have hsmN : sm + 0 + trs fr (some c_33) (cs.drop (i + 1).toNat) = fr + trs fr none cs := by rw [hds, trs, htr] at hsm; omega
                refine z_istore (pc := 149) (L' := [(4, .int (iI (sm + 0))), (8, .ref eG.v), (7, .ref a34), (6, .int (iI i)), (5, .ref qL), (3, .ref a5), (2, .ref a1), (1, .int (iI fr)), (0, .ref s)]) C dX2_difficulty_149 (by rw [hnL]; decide) rfl ?_
                refine z_aload (pc := 151) (j := 2) C dX2_difficulty_151 rfl ?_
                refine z_astore (pc := 153) (L' := [(5, .ref a34), (4, .int (iI (sm + 0))), (8, .ref eG.v), (7, .ref a34), (6, .int (iI i)), (3, .ref a5), (2, .ref a1), (1, .int (iI fr)), (0, .ref s)]) C dX2_difficulty_153 (by rw [hnL]; decide) rfl ?_
                refine z_iinc (pc := 155) (k := 4) (L' := [(6, .int (iI (i + 1))), (5, .ref a34), (4, .int (iI (sm + 0))), (8, .ref eG.v), (7, .ref a34), (3, .ref a5), (2, .ref a1), (1, .int (iI fr)), (0, .ref s)]) C dX2_difficulty_155 rfl (by rw [hnL]; decide) rfl ?_
                refine z_goto (pc := 158) (tgt := 25) C dX2_difficulty_158 (by decide) ?_
                refine Z.weak (L' := [(6, .int (iI (i + 1))), (5, .ref a34), (4, .int (iI (sm + 0))), (3, .ref a5), (2, .ref a1), (1, .int (iI fr)), (0, .ref s)]) (kc' := 5 * (40 - (i + 1).toNat) + bLC cap2 41) (ks' := 136 * (40 - (i + 1).toNat) + bLS cap2 41) [0, 1, 2, 5, 6, 7, 8] rfl (by omega) (by omega) ?_
                exact ih25 _ (by omega) (i + 1) h53 (sm + 0) (.ref a34) (some c_33) es ctN tb cap0 u2 cap2 (by omega) kh53 (Or.inr ⟨ph53_1, hs2, c_33, a34, rfl, rfl, fh53_6, hr_33⟩) (lAt.mk (cap := cap2) rfl rfl rfl fh53_3 fh53_4 lz_30 lt_30 ln_30 lc_30 lx_30 ph53_2) hml htyN hvn hvf hsmN hswN (by omega) rfl
              · refine z_iconst (pc := 143) C dX2_difficulty_143 ?_
                refine z_goto (pc := 144) (tgt := 148) C dX2_difficulty_144 (by decide) ?_
                refine z_iadd (pc := 148) C dX2_difficulty_148 ?_
                have htr : trd fr xL c_33 = 1 := by unfold trd; split <;> omega
                have hsmN : sm + 1 + trs fr (some c_33) (cs.drop (i + 1).toNat) = fr + trs fr none cs := by rw [hds, trs, htr] at hsm; omega
                refine z_istore (pc := 149) (L' := [(4, .int (iI (sm + 1))), (8, .ref eG.v), (7, .ref a34), (6, .int (iI i)), (5, .ref qL), (3, .ref a5), (2, .ref a1), (1, .int (iI fr)), (0, .ref s)]) C dX2_difficulty_149 (by rw [hnL]; decide) rfl ?_
                refine z_aload (pc := 151) (j := 2) C dX2_difficulty_151 rfl ?_
                refine z_astore (pc := 153) (L' := [(5, .ref a34), (4, .int (iI (sm + 1))), (8, .ref eG.v), (7, .ref a34), (6, .int (iI i)), (3, .ref a5), (2, .ref a1), (1, .int (iI fr)), (0, .ref s)]) C dX2_difficulty_153 (by rw [hnL]; decide) rfl ?_
                refine z_iinc (pc := 155) (k := 4) (L' := [(6, .int (iI (i + 1))), (5, .ref a34), (4, .int (iI (sm + 1))), (8, .ref eG.v), (7, .ref a34), (3, .ref a5), (2, .ref a1), (1, .int (iI fr)), (0, .ref s)]) C dX2_difficulty_155 rfl (by rw [hnL]; decide) rfl ?_
                refine z_goto (pc := 158) (tgt := 25) C dX2_difficulty_158 (by decide) ?_
                refine Z.weak (L' := [(6, .int (iI (i + 1))), (5, .ref a34), (4, .int (iI (sm + 1))), (3, .ref a5), (2, .ref a1), (1, .int (iI fr)), (0, .ref s)]) (kc' := 5 * (40 - (i + 1).toNat) + bLC cap2 41) (ks' := 136 * (40 - (i + 1).toNat) + bLS cap2 41) [0, 1, 2, 5, 6, 7, 8] rfl (by omega) (by omega) ?_
                exact ih25 _ (by omega) (i + 1) h53 (sm + 1) (.ref a34) (some c_33) es ctN tb cap0 u2 cap2 (by omega) kh53 (Or.inr ⟨ph53_1, hs2, c_33, a34, rfl, rfl, fh53_6, hr_33⟩) (lAt.mk (cap := cap2) rfl rfl rfl fh53_3 fh53_4 lz_30 lt_30 ln_30 lc_30 lx_30 ph53_2) hml htyN hvn hvf hsmN hswN (by omega) rfl
  refine Z.weak (L' := [(6, .int (iI 0)), (5, .null), (4, .int (iI fr)), (3, .ref a5), (2, .ref a1), (1, .int (iI fr)), (0, .ref s)]) (kc' := 5 * (40 - (0 : Int).toNat) + bLC 0 41) (ks' := 136 * (40 - (0 : Int).toNat) + bLS 0 41) [0, 1, 2, 3, 4, 6, 5] rfl (by omega) (by omega) ?_
  exact loop25 _ 0 h7 fr .null none ([] : List zEn) ([] : List Int) 0 0 (X.Γ.2.2.2 0) 0 (by omega) kh7 (Or.inl ⟨rfl, hmpK, rfl, rfl⟩) hl8 (Or.inr rfl) trivial List.nodup_nil (fun _ z => nomatch z) (by simp) (by simp [swt]) (by simp) rfl
set_option maxHeartbeats 4000000 in
theorem op_difficulty {l : Launch} (hl : l.stackTraces = false) {Γ : zCx} {h : zH} {c : Nat} {A : zWA} {σ : zSt} (hW : csW Γ h c A σ) {f : Int} (hf : 0 ≤ f ∧ f ≤ 7)  : zMet l yX1_difficulty (ws_ yX1_difficulty cX1_difficulty 2 (some .int)) ({ frames := 8, cells := 250, slots := 5800, locals := 180 }) Γ h [.ref c, .int (iI f)] (zrt (fun w h' => w = some (.int (iI (dif f σ.sh.cs))) ∧ zkeep h h' [])) 250 5800 := by
  refine zMet.of (cc := cX1_difficulty) hl (plainFor_of_name (by decide +kernel)) (Nat.le_of_ble_eq_true rfl) ?_
  intro X hXl hXΓ hXp C hnm hnL
  have C : zC X cX1_difficulty RX1 (some .int) 8 180 [] := C
  have hnL : X.2.1.2.2.2.2 = 2 := hnL
  subst hXl hXΓ
  show Z X h 250 5800 [(0, .ref c), (1, .int (iI f))] 0 []
  obtain ⟨⟨tf, hc0, htx, hch⟩, hdq, ⟨lq, kq, lys, ys, hsx, hfl, hls, hl0, hyc, hkx⟩, hhi, hnd, hR⟩ := id hW
  obtain ⟨rsi, rff, rwd, rtl, rtx, rsh, rhi, rhl⟩ := id hR
  obtain ⟨rcl, rcr, rll, rlt, rkt, rkm, rks⟩ := rsh
  have hll := hls.len
  have hyl := hyc.len
  obtain ⟨lm, le0, ln0, lf, hlq, hle, hln, hlN, hlx⟩ := id hfl
  have hxw := hl0
  obtain ⟨mw, fw, law, lew, lzw, ltw, lnw, lcw, lxw, lqw⟩ := hxw
  have hcl := hyc.cl lxw
  refine z_iload_n (pc := 0) (j := 1) C dX1_difficulty_0 rfl rfl ?_
  refine z_i2lI (pc := 1) C dX1_difficulty_1 (by omega) ?_
  refine z_lconst (pc := 2) (v := lI 0) C dX1_difficulty_2 (by decide) ?_
  refine z_ldc2 (pc := 3) (v := lI 7) C q1941 dX1_difficulty_3 ?_
  refine z_callS (pc := 6) (n := 3) (kc' := 250) (ks' := 5800) C (ct_isIn C.t (a := f) (b := 0) (c := 7) (by omega) (by decide) (by decide)) (lw_S q1647 q1648 q63 q1649) (by decide +kernel) ⟨by decide, by decide⟩ rfl rfl (Nat.le_of_ble_eq_true rfl) dX1_difficulty_6 (by omega) (by omega) (zpk (st' := [.int (iI (if 0 ≤ f ∧ f ≤ 7 then 1 else 0))]) rfl ?_) zrx
  rw [show ((if 0 ≤ f ∧ f ≤ 7 then 1 else 0) : Int) = 1 from if_pos (by omega)]
  show Z X h 250 5800 [(0, .ref c), (1, .int (iI f))] 9 [.int (iI 1)]
  refine z_callS (pc := 9) (n := 1) (kc' := 250) (ks' := 5800) C (ct_chkA C.t) (lw_S q1650 q1651 q63 q1652) (by decide +kernel) ⟨by decide, by decide⟩ rfl rfl (Nat.le_of_ble_eq_true rfl) dX1_difficulty_9 (by omega) (by omega) (zpk (st' := []) rfl ?_) zrx
  refine z_aload_n (pc := 12) (j := 0) C dX1_difficulty_12 rfl rfl ?_
  refine z_getfield (pc := 13) (v := .ref A.cu.s) C in_X1 rfl 5 (by decide) q282 (fun _ z => z) hc0 rfl dX1_difficulty_13 ?_
  refine z_iload_n (pc := 16) (j := 1) C dX1_difficulty_16 rfl rfl ?_
  refine z_callV (pc := 17) (n := 1) (kc' := 0) (ks' := 0) C (ct_S_dif C.t hsx (cqf hyl law) lew hcl ⟨by omega, by omega⟩ rcr (by omega) (fr := f) (by omega)) (lw_V q1074 q1075 q1076 q64 q1077) (by decide +kernel) ⟨by decide, by decide⟩ hsx rfl rfl rfl (Nat.le_of_ble_eq_true rfl) dX1_difficulty_17 (by omega) (by omega) (zrk fun w h1 hp => ?_) zrx
  obtain ⟨rfl, k2⟩ := hp
  have kh1 : zkeep h h1 [] := zkeep.loc zkeep.rf k2 zall_nil
  show Z X h1 0 0 [(0, .ref c), (1, .int (iI f))] 20 [.int (iI (dif f σ.sh.cs))]
  exact z_ireturn (pc := 20) C (by rw [hXp]; exact ⟨_, rfl, rfl, kh1⟩) dX1_difficulty_20
set_option maxHeartbeats 4000000 in
theorem op_difficulty_b {l : Launch} (hl : l.stackTraces = false) {Γ : zCx} {h : zH} {c : Nat} {A : zWA} {σ : zSt} (hW : csW Γ h c A σ) {f : Int} (hr : -2147483648 ≤ f ∧ f ≤ 2147483647) (hf : ¬ (0 ≤ f ∧ f ≤ 7))  : zMet l yX1_difficulty (ws_ yX1_difficulty cX1_difficulty 2 (some .int)) ({ frames := 7, cells := 1, slots := 6, locals := 101 }) Γ h [.ref c, .int (iI f)] (zthp h "java/lang/IllegalArgumentException") 1 6 := by
  refine zMet.of (cc := cX1_difficulty) hl (plainFor_of_name (by decide +kernel)) (Nat.le_of_ble_eq_true rfl) ?_
  intro X hXl hXΓ hXp C hnm hnL
  have C : zC X cX1_difficulty RX1 (some .int) 7 101 [] := C
  have hnL : X.2.1.2.2.2.2 = 2 := hnL
  subst hXl hXΓ
  show Z X h 1 6 [(0, .ref c), (1, .int (iI f))] 0 []
  obtain ⟨⟨tf, hc0, htx, hch⟩, hdq, ⟨lq, kq, lys, ys, hsx, hfl, hls, hl0, hyc, hkx⟩, hhi, hnd, hR⟩ := id hW
  obtain ⟨rsi, rff, rwd, rtl, rtx, rsh, rhi, rhl⟩ := id hR
  obtain ⟨rcl, rcr, rll, rlt, rkt, rkm, rks⟩ := rsh
  have hll := hls.len
  have hyl := hyc.len
  obtain ⟨lm, le0, ln0, lf, hlq, hle, hln, hlN, hlx⟩ := id hfl
  have hxw := hl0
  obtain ⟨mw, fw, law, lew, lzw, ltw, lnw, lcw, lxw, lqw⟩ := hxw
  have hcl := hyc.cl lxw
  refine z_iload_n (pc := 0) (j := 1) C dX1_difficulty_0 rfl rfl ?_
  refine z_i2lI (pc := 1) C dX1_difficulty_1 (by omega) ?_
  refine z_lconst (pc := 2) (v := lI 0) C dX1_difficulty_2 (by decide) ?_
  refine z_ldc2 (pc := 3) (v := lI 7) C q1941 dX1_difficulty_3 ?_
  refine z_callS (pc := 6) (n := 3) (kc' := 1) (ks' := 6) C (ct_isIn C.t (a := f) (b := 0) (c := 7) (by omega) (by decide) (by decide)) (lw_S q1647 q1648 q63 q1649) (by decide +kernel) ⟨by decide, by decide⟩ rfl rfl (Nat.le_of_ble_eq_true rfl) dX1_difficulty_6 (by omega) (by omega) (zpk (st' := [.int (iI (if 0 ≤ f ∧ f ≤ 7 then 1 else 0))]) rfl ?_) zrx
  rw [show ((if 0 ≤ f ∧ f ≤ 7 then 1 else 0) : Int) = 0 from if_neg (by omega)]
  show Z X h 1 6 [(0, .ref c), (1, .int (iI f))] 9 [.int (iI 0)]
  refine z_callS (pc := 9) (n := 1) (kc' := 0) (ks' := 0) C (ct_chkAb C.t ) (lw_S q1650 q1651 q63 q1652) (by decide +kernel) ⟨by decide, by decide⟩ rfl rfl (Nat.le_of_ble_eq_true rfl) dX1_difficulty_9 (by omega) (by omega) zthk (zthx fun q2 h1 hp => ?_)
  rw [hp]
  exact zx_out C (fun x hx => nomatch hx) (by rw [hXp]; exact ⟨_, rfl, rfl⟩)
set_option maxHeartbeats 4000000 in
theorem op_bestCapo {l : Launch} (hl : l.stackTraces = false) {Γ : zCx} {h : zH} {c : Nat} {A : zWA} {σ : zSt} (hW : csW Γ h c A σ)  : zMet l yX1_bestCapo (ws_ yX1_bestCapo cX1_bestCapo 5 (some .int)) ({ frames := 8, cells := 2000, slots := 46400, locals := 180 }) Γ h [.ref c] (zrt (fun w h' => w = some (.int (iI (bcp σ.sh.cs))) ∧ zkeep h h' [])) 2000 46400 := by
  refine zMet.of (cc := cX1_bestCapo) hl (plainFor_of_name (by decide +kernel)) (Nat.le_of_ble_eq_true rfl) ?_
  intro X hXl hXΓ hXp C hnm hnL
  have C : zC X cX1_bestCapo RX1 (some .int) 8 180 [] := C
  have hnL : X.2.1.2.2.2.2 = 5 := hnL
  subst hXl hXΓ
  show Z X h 2000 46400 [(0, .ref c)] 0 []
  obtain ⟨⟨tf, hc0, htx, hch⟩, hdq, ⟨lq, kq, lys, ys, hsx, hfl, hls, hl0, hyc, hkx⟩, hhi, hnd, hR⟩ := id hW
  obtain ⟨rsi, rff, rwd, rtl, rtx, rsh, rhi, rhl⟩ := id hR
  obtain ⟨rcl, rcr, rll, rlt, rkt, rkm, rks⟩ := rsh
  have hll := hls.len
  have hyl := hyc.len
  obtain ⟨lm, le0, ln0, lf, hlq, hle, hln, hlN, hlx⟩ := id hfl
  have hxw := hl0
  obtain ⟨mw, fw, law, lew, lzw, ltw, lnw, lcw, lxw, lqw⟩ := hxw
  have hcl := hyc.cl lxw
  refine z_iconst (pc := 0) C dX1_bestCapo_0 ?_
  refine z_istore_n (pc := 1) (L' := [(1, .int (iI 0)), (0, .ref c)]) C dX1_bestCapo_1 rfl (by rw [hnL]; decide) rfl ?_
  refine z_aload_n (pc := 2) (j := 1) C dX1_bestCapo_2 rfl rfl ?_
  refine z_getfield (pc := 3) (v := .ref A.cu.s) C in_X1 rfl 5 (by decide) q282 (fun _ z => z) hc0 rfl dX1_bestCapo_3 ?_
  refine z_iconst (pc := 6) C dX1_bestCapo_6 ?_
  refine z_callV (pc := 7) (n := 1) (kc' := 1750) (ks' := 40600) C (ct_S_dif C.t hsx (cqf hyl law) lew hcl ⟨by omega, by omega⟩ rcr (by omega) (fr := 0) (by omega)) (lw_V q1074 q1075 q1076 q64 q1077) (by decide +kernel) ⟨by decide, by decide⟩ hsx rfl rfl rfl (Nat.le_of_ble_eq_true rfl) dX1_bestCapo_7 (by omega) (by omega) (zrk fun w h1 hp => ?_) zrx
  obtain ⟨rfl, k2⟩ := hp
  have kh1 : zkeep h h1 [] := zkeep.loc zkeep.rf k2 zall_nil
  show Z X h1 1750 40600 [(1, .int (iI 0)), (0, .ref c)] 10 [.int (iI (dif 0 σ.sh.cs))]
  have hd0 := dif_r 0 σ.sh.cs
  refine z_istore_n (pc := 10) (L' := [(2, .int (iI (dif 0 σ.sh.cs))), (1, .int (iI 0)), (0, .ref c)]) C dX1_bestCapo_10 rfl (by rw [hnL]; decide) rfl ?_
  refine z_iconst (pc := 11) C dX1_bestCapo_11 ?_
  refine z_istore_n (pc := 12) (L' := [(3, .int (iI 1)), (2, .int (iI (dif 0 σ.sh.cs))), (1, .int (iI 0)), (0, .ref c)]) C dX1_bestCapo_12 rfl (by rw [hnL]; decide) rfl ?_
  have loop13 : ∀ (n13 : Nat) (f : Int) (b : Int) (l : Int) (g : zH), (1 ≤ f ∧ f ≤ 8) → (0 ≤ l ∧ l ≤ 1000) → (zkeep h g []) → (bcg σ.sh.cs (8 - f.toNat) f b l = bcp σ.sh.cs) → ((8 - f).toNat) = n13 → Z X g (250 * (8 - f.toNat)) (5800 * (8 - f.toNat)) [(3, .int (iI f)), (2, .int (iI l)), (1, .int (iI b)), (0, .ref c)] 13 [] := by
    intro n13
    induction n13 using Nat.strongRecOn with
    | ind n13 ih13 =>
    intro f b l g hf hl_ hkp hd hn13
    refine z_iload_n (pc := 13) (j := 0) C dX1_bestCapo_13 rfl rfl ?_
    refine z_bipush (pc := 14) C dX1_bestCapo_14 (by decide) ?_
    refine z_icmp_gt (pc := 16) (tgt := 54) C dX1_bestCapo_16 (by decide) (by omega) (by decide) (fun c16 => ?_) (fun c16 => ?_)
    · refine z_iload_n (pc := 54) (j := 2) C dX1_bestCapo_54 rfl rfl ?_
      exact z_ireturn (pc := 55) C (by rw [hXp]; exact ⟨_, rfl, (by rw [show 8 - f.toNat = 0 by omega, bcg] at hd; rw [hd]), hkp⟩) dX1_bestCapo_55
    · refine z_aload_n (pc := 19) (j := 3) C dX1_bestCapo_19 rfl rfl ?_
      refine z_getfield (pc := 20) (v := .ref A.cu.s) C in_X1 rfl 5 (by decide) q282 (fun _ z => z) (hkp.n hc0 List.not_mem_nil) rfl dX1_bestCapo_20 ?_
      refine z_iload_n (pc := 23) (j := 0) C dX1_bestCapo_23 rfl rfl ?_
      refine z_callV (pc := 24) (n := 1) (kc' := (250 * (8 - f.toNat) - 250)) (ks' := (5800 * (8 - f.toNat) - 5800)) C (ct_S_dif C.t (hkp.n hsx List.not_mem_nil) (cqf hyl (hkp.n law List.not_mem_nil)) (hkp.n lew List.not_mem_nil) (clA.keep hkp hcl) ⟨by omega, by omega⟩ rcr (by omega) (fr := f) (by omega)) (lw_V q1074 q1075 q1076 q64 q1077) (by decide +kernel) ⟨by decide, by decide⟩ (hkp.n hsx List.not_mem_nil) rfl rfl rfl (Nat.le_of_ble_eq_true rfl) dX1_bestCapo_24 (by omega) (by omega) (zrk fun w h3 hp => ?_) zrx
      obtain ⟨rfl, k4⟩ := hp
      have kh3 : zkeep h h3 [] := zkeep.loc hkp k4 zall_nil
      show Z X h3 (250 * (8 - f.toNat) - 250) (5800 * (8 - f.toNat) - 5800) [(3, .int (iI f)), (2, .int (iI l)), (1, .int (iI b)), (0, .ref c)] 27 [.int (iI (dif f σ.sh.cs))]
      have hdf := dif_r f σ.sh.cs
      refine z_istore (pc := 27) (L' := [(4, .int (iI (dif f σ.sh.cs))), (3, .int (iI f)), (2, .int (iI l)), (1, .int (iI b)), (0, .ref c)]) C dX1_bestCapo_27 (by rw [hnL]; decide) rfl ?_
      refine z_iload (pc := 29) (j := 0) C dX1_bestCapo_29 rfl ?_
      refine z_iload_n (pc := 31) (j := 2) C dX1_bestCapo_31 rfl rfl ?_
      refine z_icmp_ge (pc := 32) (tgt := 39) C dX1_bestCapo_32 (by decide) (by omega) (by omega) (fun c32 => ?_) (fun c32 => ?_)
      · refine z_iload_n (pc := 39) (j := 3) C dX1_bestCapo_39 rfl rfl ?_
        refine z_istore_n (pc := 40) (L' := [(1, .int (iI b)), (4, .int (iI (dif f σ.sh.cs))), (3, .int (iI f)), (2, .int (iI l)), (0, .ref c)]) C dX1_bestCapo_40 rfl (by rw [hnL]; decide) rfl ?_
        refine z_iload_n (pc := 41) (j := 3) C dX1_bestCapo_41 rfl rfl ?_
        refine z_iload (pc := 42) (j := 1) C dX1_bestCapo_42 rfl ?_
        refine z_callS (pc := 44) (n := 2) (kc' := (250 * (8 - f.toNat) - 250)) (ks' := (5800 * (8 - f.toNat) - 5800)) C (ct_min C.t (x := l) (y := dif f σ.sh.cs) (by omega) (by omega)) (lw_S q1627 q266 q71 q267) (by decide +kernel) ⟨by decide, by decide⟩ rfl rfl (Nat.le_of_ble_eq_true rfl) dX1_bestCapo_44 (by omega) (by omega) (zpk (st' := [.int (iI (min l (dif f σ.sh.cs)))]) rfl ?_) zrx
        refine z_istore_n (pc := 47) (L' := [(2, .int (iI (min l (dif f σ.sh.cs)))), (1, .int (iI b)), (4, .int (iI (dif f σ.sh.cs))), (3, .int (iI f)), (0, .ref c)]) C dX1_bestCapo_47 rfl (by rw [hnL]; decide) rfl ?_
        refine z_iinc (pc := 48) (k := 3) (L' := [(3, .int (iI (f + 1))), (2, .int (iI (min l (dif f σ.sh.cs)))), (1, .int (iI b)), (4, .int (iI (dif f σ.sh.cs))), (0, .ref c)]) C dX1_bestCapo_48 rfl (by rw [hnL]; decide) rfl ?_
        refine z_goto (pc := 51) (tgt := 13) C dX1_bestCapo_51 (by decide) ?_
        refine Z.weak (L' := [(3, .int (iI (f + 1))), (2, .int (iI (min l (dif f σ.sh.cs)))), (1, .int (iI b)), (0, .ref c)]) (kc' := 250 * (8 - (f + 1).toNat)) (ks' := 5800 * (8 - (f + 1).toNat)) [0, 1, 2, 4] rfl (by omega) (by omega) ?_
        exact ih13 _ (by omega) (f + 1) b (min l (dif f σ.sh.cs)) h3 (by omega) (by omega) kh3 (by rw [show 8 - f.toNat = (8 - (f + 1).toNat) + 1 by omega, bcg, if_neg (by omega)] at hd; exact hd) rfl
      · refine z_iload_n (pc := 35) (j := 1) C dX1_bestCapo_35 rfl rfl ?_
        refine z_goto (pc := 36) (tgt := 40) C dX1_bestCapo_36 (by decide) ?_
        refine z_istore_n (pc := 40) (L' := [(1, .int (iI f)), (4, .int (iI (dif f σ.sh.cs))), (3, .int (iI f)), (2, .int (iI l)), (0, .ref c)]) C dX1_bestCapo_40 rfl (by rw [hnL]; decide) rfl ?_
        refine z_iload_n (pc := 41) (j := 3) C dX1_bestCapo_41 rfl rfl ?_
        refine z_iload (pc := 42) (j := 1) C dX1_bestCapo_42 rfl ?_
        refine z_callS (pc := 44) (n := 2) (kc' := (250 * (8 - f.toNat) - 250)) (ks' := (5800 * (8 - f.toNat) - 5800)) C (ct_min C.t (x := l) (y := dif f σ.sh.cs) (by omega) (by omega)) (lw_S q1627 q266 q71 q267) (by decide +kernel) ⟨by decide, by decide⟩ rfl rfl (Nat.le_of_ble_eq_true rfl) dX1_bestCapo_44 (by omega) (by omega) (zpk (st' := [.int (iI (min l (dif f σ.sh.cs)))]) rfl ?_) zrx
        refine z_istore_n (pc := 47) (L' := [(2, .int (iI (min l (dif f σ.sh.cs)))), (1, .int (iI f)), (4, .int (iI (dif f σ.sh.cs))), (3, .int (iI f)), (0, .ref c)]) C dX1_bestCapo_47 rfl (by rw [hnL]; decide) rfl ?_
        refine z_iinc (pc := 48) (k := 3) (L' := [(3, .int (iI (f + 1))), (2, .int (iI (min l (dif f σ.sh.cs)))), (1, .int (iI f)), (4, .int (iI (dif f σ.sh.cs))), (0, .ref c)]) C dX1_bestCapo_48 rfl (by rw [hnL]; decide) rfl ?_
        refine z_goto (pc := 51) (tgt := 13) C dX1_bestCapo_51 (by decide) ?_
        refine Z.weak (L' := [(3, .int (iI (f + 1))), (2, .int (iI (min l (dif f σ.sh.cs)))), (1, .int (iI f)), (0, .ref c)]) (kc' := 250 * (8 - (f + 1).toNat)) (ks' := 5800 * (8 - (f + 1).toNat)) [0, 1, 2, 4] rfl (by omega) (by omega) ?_
        exact ih13 _ (by omega) (f + 1) f (min l (dif f σ.sh.cs)) h3 (by omega) (by omega) kh3 (by rw [show 8 - f.toNat = (8 - (f + 1).toNat) + 1 by omega, bcg, if_pos (by omega)] at hd; exact hd) rfl
  refine Z.weak (L' := [(3, .int (iI 1)), (2, .int (iI (dif 0 σ.sh.cs))), (1, .int (iI 0)), (0, .ref c)]) (kc' := 250 * (8 - (1 : Int).toNat)) (ks' := 5800 * (8 - (1 : Int).toNat)) [0, 1, 2, 3] rfl (by omega) (by omega) ?_
  exact loop13 _ 1 0 (dif 0 σ.sh.cs) h1 (by omega) (by omega) kh1 rfl rfl

/-! 23.sheet.lean.txt -/
set_option maxRecDepth 100000
abbrev cX2_init : ByteArray := prog_7_method_1_code
def yX2_init : MethodName := ⟨RX2, "<init>", "(LChordSheet$Key;)V"⟩
def dkwX2_init_1 : List UInt8 := [181, 0, 18, 42, 43, 181, 0, 21, 177]
abbrev dktX2_init_1 : List UInt8 := dkwX2_init_1 ++ []
def dkwX2_init_0 : List UInt8 := [42, 183, 0, 3, 42, 187, 0, 9, 89, 183, 0, 11, 181, 0, 12, 42, 187, 0, 9, 89, 183, 0, 11]
abbrev dktX2_init_0 : List UInt8 := dkwX2_init_0 ++ dktX2_init_1
theorem dksX2_init_0 : cX2_init.data.toList.drop 0 = dktX2_init_0 := by decide +kernel
theorem dksX2_init_1 : cX2_init.data.toList.drop 23 = dktX2_init_1 := dk_seg dksX2_init_0 23 rfl rfl
abbrev cX2_isBehind : ByteArray := prog_7_method_4_code
def yX2_isBehind : MethodName := ⟨RX2, "isBehind", "(LChordSheet$Chord;LChordSheet$Chord;)Z"⟩
def dkwX2_isBehind_1 : List UInt8 := [180, 0, 55, 43, 180, 0, 55, 164, 0, 7, 4, 167, 0, 4, 3, 172]
abbrev dktX2_isBehind_1 : List UInt8 := dkwX2_isBehind_1 ++ []
def dkwX2_isBehind_0 : List UInt8 := [42, 180, 0, 51, 43, 180, 0, 51, 163, 0, 25, 42, 180, 0, 51, 43, 180, 0, 51, 160, 0, 18, 42]
abbrev dktX2_isBehind_0 : List UInt8 := dkwX2_isBehind_0 ++ dktX2_isBehind_1
theorem dksX2_isBehind_0 : cX2_isBehind.data.toList.drop 0 = dktX2_isBehind_0 := by decide +kernel
theorem dksX2_isBehind_1 : cX2_isBehind.data.toList.drop 23 = dktX2_isBehind_1 := dk_seg dksX2_isBehind_0 23 rfl rfl
abbrev cX2_score : ByteArray := prog_7_method_5_code
def yX2_score : MethodName := ⟨RX2, "score", "(LChordSheet$Key;)I"⟩
def dkwX2_score_5 : List UInt8 := [132, 4, 1, 167, 255, 152, 28, 172]
abbrev dktX2_score_5 : List UInt8 := dkwX2_score_5 ++ []
def dkwX2_score_4 : List UInt8 := [28, 21, 4, 42, 180, 0, 18, 182, 0, 28, 4, 100, 160, 0, 7, 5, 167, 0, 4, 3, 96, 61]
abbrev dktX2_score_4 : List UInt8 := dkwX2_score_4 ++ dktX2_score_5
def dkwX2_score_3 : List UInt8 := [29, 160, 0, 45, 28, 25, 5, 182, 0, 74, 43, 180, 0, 78, 160, 0, 7, 5, 167, 0, 4, 4, 96, 61]
abbrev dktX2_score_3 : List UInt8 := dkwX2_score_3 ++ dktX2_score_4
def dkwX2_score_2 : List UInt8 := [184, 0, 63, 54, 6, 28, 43, 21, 6, 182, 0, 70, 153, 0, 7, 5, 167, 0, 4, 3, 96, 61, 21, 6]
abbrev dktX2_score_2 : List UInt8 := dkwX2_score_2 ++ dktX2_score_3
def dkwX2_score_1 : List UInt8 := [162, 0, 98, 42, 180, 0, 18, 21, 4, 182, 0, 32, 192, 0, 42, 58, 5, 25, 5, 180, 0, 67]
abbrev dktX2_score_1 : List UInt8 := dkwX2_score_1 ++ dktX2_score_2
def dkwX2_score_0 : List UInt8 := [3, 61, 43, 180, 0, 58, 184, 0, 63, 62, 3, 54, 4, 21, 4, 42, 180, 0, 18, 182, 0, 28]
abbrev dktX2_score_0 : List UInt8 := dkwX2_score_0 ++ dktX2_score_1
theorem dksX2_score_0 : cX2_score.data.toList.drop 0 = dktX2_score_0 := by decide +kernel
theorem dksX2_score_1 : cX2_score.data.toList.drop 22 = dktX2_score_1 := dk_seg dksX2_score_0 22 rfl rfl
theorem dksX2_score_2 : cX2_score.data.toList.drop 44 = dktX2_score_2 := dk_seg dksX2_score_1 22 rfl rfl
theorem dksX2_score_3 : cX2_score.data.toList.drop 68 = dktX2_score_3 := dk_seg dksX2_score_2 24 rfl rfl
theorem dksX2_score_4 : cX2_score.data.toList.drop 92 = dktX2_score_4 := dk_seg dksX2_score_3 24 rfl rfl
theorem dksX2_score_5 : cX2_score.data.toList.drop 114 = dktX2_score_5 := dk_seg dksX2_score_4 22 rfl rfl
abbrev cX2_likeliest : ByteArray := prog_7_method_6_code
def yX2_likeliest : MethodName := ⟨RX2, "likeliest", "()LChordSheet$Key;"⟩
def dkwX2_likeliest_3 : List UInt8 := [164, 0, 8, 25, 4, 167, 0, 4, 43, 76, 132, 3, 1, 167, 255, 192, 132, 2, 1, 167, 255, 179, 43, 176]
abbrev dktX2_likeliest_3 : List UInt8 := dkwX2_likeliest_3 ++ []
def dkwX2_likeliest_2 : List UInt8 := [160, 0, 7, 4, 167, 0, 4, 3, 184, 0, 84, 58, 4, 42, 25, 4, 182, 0, 88, 42, 43, 182, 0, 88]
abbrev dktX2_likeliest_2 : List UInt8 := dkwX2_likeliest_2 ++ dktX2_likeliest_3
def dkwX2_likeliest_1 : List UInt8 := [162, 0, 64, 29, 5, 112, 4, 160, 0, 11, 29, 4, 96, 5, 108, 167, 0, 7, 29, 116, 5, 108, 28, 4]
abbrev dktX2_likeliest_1 : List UInt8 := dkwX2_likeliest_1 ++ dktX2_likeliest_2
def dkwX2_likeliest_0 : List UInt8 := [187, 0, 59, 89, 3, 3, 183, 0, 81, 76, 3, 61, 28, 5, 162, 0, 78, 3, 62, 29, 16, 13]
abbrev dktX2_likeliest_0 : List UInt8 := dkwX2_likeliest_0 ++ dktX2_likeliest_1
theorem dksX2_likeliest_0 : cX2_likeliest.data.toList.drop 0 = dktX2_likeliest_0 := by decide +kernel
theorem dksX2_likeliest_1 : cX2_likeliest.data.toList.drop 22 = dktX2_likeliest_1 := dk_seg dksX2_likeliest_0 22 rfl rfl
theorem dksX2_likeliest_2 : cX2_likeliest.data.toList.drop 46 = dktX2_likeliest_2 := dk_seg dksX2_likeliest_1 24 rfl rfl
theorem dksX2_likeliest_3 : cX2_likeliest.data.toList.drop 70 = dktX2_likeliest_3 := dk_seg dksX2_likeliest_2 24 rfl rfl
abbrev cX2_insert : ByteArray := prog_7_method_3_code
def yX2_insert : MethodName := ⟨RX2, "insert", "(LChordSheet$Chord;)I"⟩
def dkwX2_insert_1 : List UInt8 := [43, 184, 0, 44, 154, 0, 9, 132, 2, 1, 167, 255, 224, 42, 180, 0, 18, 28, 43, 182, 0, 48, 28, 172]
abbrev dktX2_insert_1 : List UInt8 := dkwX2_insert_1 ++ []
def dkwX2_insert_0 : List UInt8 := [3, 61, 28, 42, 180, 0, 18, 182, 0, 28, 162, 0, 27, 42, 180, 0, 18, 28, 182, 0, 32, 192, 0, 42]
abbrev dktX2_insert_0 : List UInt8 := dkwX2_insert_0 ++ dktX2_insert_1
theorem dksX2_insert_0 : cX2_insert.data.toList.drop 0 = dktX2_insert_0 := by decide +kernel
theorem dksX2_insert_1 : cX2_insert.data.toList.drop 24 = dktX2_insert_1 := dk_seg dksX2_insert_0 24 rfl rfl
abbrev cX2_copied : ByteArray := prog_7_method_2_code
def yX2_copied : MethodName := ⟨RX2, "copied", "()LChordSheet$Sheet;"⟩
def dkwX2_copied_3 : List UInt8 := [180, 0, 18, 28, 182, 0, 32, 192, 0, 42, 182, 0, 38, 87, 132, 2, 1, 167, 255, 223, 43, 176]
abbrev dktX2_copied_3 : List UInt8 := dkwX2_copied_3 ++ []
def dkwX2_copied_2 : List UInt8 := [132, 2, 1, 167, 255, 223, 3, 61, 28, 42, 180, 0, 18, 182, 0, 28, 162, 0, 28, 43, 180, 0, 18, 42]
abbrev dktX2_copied_2 : List UInt8 := dkwX2_copied_2 ++ dktX2_copied_3
def dkwX2_copied_1 : List UInt8 := [162, 0, 28, 43, 180, 0, 12, 42, 180, 0, 12, 28, 182, 0, 32, 192, 0, 36, 182, 0, 38, 87]
abbrev dktX2_copied_1 : List UInt8 := dkwX2_copied_1 ++ dktX2_copied_2
def dkwX2_copied_0 : List UInt8 := [187, 0, 13, 89, 42, 180, 0, 21, 183, 0, 25, 76, 3, 61, 28, 42, 180, 0, 12, 182, 0, 28]
abbrev dktX2_copied_0 : List UInt8 := dkwX2_copied_0 ++ dktX2_copied_1
theorem dksX2_copied_0 : cX2_copied.data.toList.drop 0 = dktX2_copied_0 := by decide +kernel
theorem dksX2_copied_1 : cX2_copied.data.toList.drop 22 = dktX2_copied_1 := dk_seg dksX2_copied_0 22 rfl rfl
theorem dksX2_copied_2 : cX2_copied.data.toList.drop 44 = dktX2_copied_2 := dk_seg dksX2_copied_1 22 rfl rfl
theorem dksX2_copied_3 : cX2_copied.data.toList.drop 68 = dktX2_copied_3 := dk_seg dksX2_copied_2 24 rfl rfl
theorem dX2_init_0 : decode cX2_init 0 = .ok (.aload_n 0, 1) := dk_42 (dk_at dksX2_init_0 0 rfl rfl)
theorem dX2_init_1 : decode cX2_init 1 = .ok (.invokespecial 3, 3) := dk_183 0 3 (dk_at dksX2_init_0 1 rfl rfl)
theorem dX2_init_4 : decode cX2_init 4 = .ok (.aload_n 0, 1) := dk_42 (dk_at dksX2_init_0 4 rfl rfl)
theorem dX2_init_5 : decode cX2_init 5 = .ok (.new 9, 3) := dk_187 0 9 (dk_at dksX2_init_0 5 rfl rfl)
theorem dX2_init_8 : decode cX2_init 8 = .ok (.dup, 1) := dk_89 (dk_at dksX2_init_0 8 rfl rfl)
theorem dX2_init_9 : decode cX2_init 9 = .ok (.invokespecial 11, 3) := dk_183 0 11 (dk_at dksX2_init_0 9 rfl rfl)
theorem dX2_init_12 : decode cX2_init 12 = .ok (.putfield 12, 3) := dk_181 0 12 (dk_at dksX2_init_0 12 rfl rfl)
theorem dX2_init_15 : decode cX2_init 15 = .ok (.aload_n 0, 1) := dk_42 (dk_at dksX2_init_0 15 rfl rfl)
theorem dX2_init_16 : decode cX2_init 16 = .ok (.new 9, 3) := dk_187 0 9 (dk_at dksX2_init_0 16 rfl rfl)
theorem dX2_init_19 : decode cX2_init 19 = .ok (.dup, 1) := dk_89 (dk_at dksX2_init_0 19 rfl rfl)
theorem dX2_init_20 : decode cX2_init 20 = .ok (.invokespecial 11, 3) := dk_183 0 11 (dk_at dksX2_init_0 20 rfl rfl)
theorem dX2_init_23 : decode cX2_init 23 = .ok (.putfield 18, 3) := dk_181 0 18 (dk_at dksX2_init_1 0 rfl rfl)
theorem dX2_init_26 : decode cX2_init 26 = .ok (.aload_n 0, 1) := dk_42 (dk_at dksX2_init_1 3 rfl rfl)
theorem dX2_init_27 : decode cX2_init 27 = .ok (.aload_n 1, 1) := dk_43 (dk_at dksX2_init_1 4 rfl rfl)
theorem dX2_init_28 : decode cX2_init 28 = .ok (.putfield 21, 3) := dk_181 0 21 (dk_at dksX2_init_1 5 rfl rfl)
theorem dX2_init_31 : decode cX2_init 31 = .ok (.return_, 1) := dk_177 (dk_at dksX2_init_1 8 rfl rfl)
theorem dX2_isBehind_0 : decode cX2_isBehind 0 = .ok (.aload_n 0, 1) := dk_42 (dk_at dksX2_isBehind_0 0 rfl rfl)
theorem dX2_isBehind_1 : decode cX2_isBehind 1 = .ok (.getfield 51, 3) := dk_180 0 51 (dk_at dksX2_isBehind_0 1 rfl rfl)
theorem dX2_isBehind_4 : decode cX2_isBehind 4 = .ok (.aload_n 1, 1) := dk_43 (dk_at dksX2_isBehind_0 4 rfl rfl)
theorem dX2_isBehind_5 : decode cX2_isBehind 5 = .ok (.getfield 51, 3) := dk_180 0 51 (dk_at dksX2_isBehind_0 5 rfl rfl)
theorem dX2_isBehind_8 : decode cX2_isBehind 8 = .ok (.if_icmp .gt 25, 3) := dk_163 0 25 (dk_at dksX2_isBehind_0 8 rfl rfl)
theorem dX2_isBehind_11 : decode cX2_isBehind 11 = .ok (.aload_n 0, 1) := dk_42 (dk_at dksX2_isBehind_0 11 rfl rfl)
theorem dX2_isBehind_12 : decode cX2_isBehind 12 = .ok (.getfield 51, 3) := dk_180 0 51 (dk_at dksX2_isBehind_0 12 rfl rfl)
theorem dX2_isBehind_15 : decode cX2_isBehind 15 = .ok (.aload_n 1, 1) := dk_43 (dk_at dksX2_isBehind_0 15 rfl rfl)
theorem dX2_isBehind_16 : decode cX2_isBehind 16 = .ok (.getfield 51, 3) := dk_180 0 51 (dk_at dksX2_isBehind_0 16 rfl rfl)
theorem dX2_isBehind_19 : decode cX2_isBehind 19 = .ok (.if_icmp .ne 18, 3) := dk_160 0 18 (dk_at dksX2_isBehind_0 19 rfl rfl)
theorem dX2_isBehind_22 : decode cX2_isBehind 22 = .ok (.aload_n 0, 1) := dk_42 (dk_at dksX2_isBehind_0 22 rfl rfl)
theorem dX2_isBehind_23 : decode cX2_isBehind 23 = .ok (.getfield 55, 3) := dk_180 0 55 (dk_at dksX2_isBehind_1 0 rfl rfl)
theorem dX2_isBehind_26 : decode cX2_isBehind 26 = .ok (.aload_n 1, 1) := dk_43 (dk_at dksX2_isBehind_1 3 rfl rfl)
theorem dX2_isBehind_27 : decode cX2_isBehind 27 = .ok (.getfield 55, 3) := dk_180 0 55 (dk_at dksX2_isBehind_1 4 rfl rfl)
theorem dX2_isBehind_30 : decode cX2_isBehind 30 = .ok (.if_icmp .le 7, 3) := dk_164 0 7 (dk_at dksX2_isBehind_1 7 rfl rfl)
theorem dX2_isBehind_33 : decode cX2_isBehind 33 = .ok (.iconst 1, 1) := dk_4 (dk_at dksX2_isBehind_1 10 rfl rfl)
theorem dX2_isBehind_34 : decode cX2_isBehind 34 = .ok (.goto 4, 3) := dk_167 0 4 (dk_at dksX2_isBehind_1 11 rfl rfl)
theorem dX2_isBehind_37 : decode cX2_isBehind 37 = .ok (.iconst 0, 1) := dk_3 (dk_at dksX2_isBehind_1 14 rfl rfl)
theorem dX2_isBehind_38 : decode cX2_isBehind 38 = .ok (.ireturn, 1) := dk_172 (dk_at dksX2_isBehind_1 15 rfl rfl)
theorem dX2_score_0 : decode cX2_score 0 = .ok (.iconst 0, 1) := dk_3 (dk_at dksX2_score_0 0 rfl rfl)
theorem dX2_score_1 : decode cX2_score 1 = .ok (.istore_n 2, 1) := dk_61 (dk_at dksX2_score_0 1 rfl rfl)
theorem dX2_score_2 : decode cX2_score 2 = .ok (.aload_n 1, 1) := dk_43 (dk_at dksX2_score_0 2 rfl rfl)
theorem dX2_score_3 : decode cX2_score 3 = .ok (.getfield 58, 3) := dk_180 0 58 (dk_at dksX2_score_0 3 rfl rfl)
theorem dX2_score_6 : decode cX2_score 6 = .ok (.invokestatic 63, 3) := dk_184 0 63 (dk_at dksX2_score_0 6 rfl rfl)
theorem dX2_score_9 : decode cX2_score 9 = .ok (.istore_n 3, 1) := dk_62 (dk_at dksX2_score_0 9 rfl rfl)
theorem dX2_score_10 : decode cX2_score 10 = .ok (.iconst 0, 1) := dk_3 (dk_at dksX2_score_0 10 rfl rfl)
theorem dX2_score_11 : decode cX2_score 11 = .ok (.istore 4, 2) := dk_54 4 (dk_at dksX2_score_0 11 rfl rfl)
theorem dX2_score_13 : decode cX2_score 13 = .ok (.iload 4, 2) := dk_21 4 (dk_at dksX2_score_0 13 rfl rfl)
theorem dX2_score_15 : decode cX2_score 15 = .ok (.aload_n 0, 1) := dk_42 (dk_at dksX2_score_0 15 rfl rfl)
theorem dX2_score_16 : decode cX2_score 16 = .ok (.getfield 18, 3) := dk_180 0 18 (dk_at dksX2_score_0 16 rfl rfl)
theorem dX2_score_19 : decode cX2_score 19 = .ok (.invokevirtual 28, 3) := dk_182 0 28 (dk_at dksX2_score_0 19 rfl rfl)
theorem dX2_score_22 : decode cX2_score 22 = .ok (.if_icmp .ge 98, 3) := dk_162 0 98 (dk_at dksX2_score_1 0 rfl rfl)
theorem dX2_score_25 : decode cX2_score 25 = .ok (.aload_n 0, 1) := dk_42 (dk_at dksX2_score_1 3 rfl rfl)
theorem dX2_score_26 : decode cX2_score 26 = .ok (.getfield 18, 3) := dk_180 0 18 (dk_at dksX2_score_1 4 rfl rfl)
theorem dX2_score_29 : decode cX2_score 29 = .ok (.iload 4, 2) := dk_21 4 (dk_at dksX2_score_1 7 rfl rfl)
theorem dX2_score_31 : decode cX2_score 31 = .ok (.invokevirtual 32, 3) := dk_182 0 32 (dk_at dksX2_score_1 9 rfl rfl)
theorem dX2_score_34 : decode cX2_score 34 = .ok (.checkcast 42, 3) := dk_192 0 42 (dk_at dksX2_score_1 12 rfl rfl)
theorem dX2_score_37 : decode cX2_score 37 = .ok (.astore 5, 2) := dk_58 5 (dk_at dksX2_score_1 15 rfl rfl)
theorem dX2_score_39 : decode cX2_score 39 = .ok (.aload 5, 2) := dk_25 5 (dk_at dksX2_score_1 17 rfl rfl)
theorem dX2_score_41 : decode cX2_score 41 = .ok (.getfield 67, 3) := dk_180 0 67 (dk_at dksX2_score_1 19 rfl rfl)
theorem dX2_score_44 : decode cX2_score 44 = .ok (.invokestatic 63, 3) := dk_184 0 63 (dk_at dksX2_score_2 0 rfl rfl)
theorem dX2_score_47 : decode cX2_score 47 = .ok (.istore 6, 2) := dk_54 6 (dk_at dksX2_score_2 3 rfl rfl)
theorem dX2_score_49 : decode cX2_score 49 = .ok (.iload_n 2, 1) := dk_28 (dk_at dksX2_score_2 5 rfl rfl)
theorem dX2_score_50 : decode cX2_score 50 = .ok (.aload_n 1, 1) := dk_43 (dk_at dksX2_score_2 6 rfl rfl)
theorem dX2_score_51 : decode cX2_score 51 = .ok (.iload 6, 2) := dk_21 6 (dk_at dksX2_score_2 7 rfl rfl)
theorem dX2_score_53 : decode cX2_score 53 = .ok (.invokevirtual 70, 3) := dk_182 0 70 (dk_at dksX2_score_2 9 rfl rfl)
theorem dX2_score_56 : decode cX2_score 56 = .ok (.ifCond .eq 7, 3) := dk_153 0 7 (dk_at dksX2_score_2 12 rfl rfl)
theorem dX2_score_59 : decode cX2_score 59 = .ok (.iconst 2, 1) := dk_5 (dk_at dksX2_score_2 15 rfl rfl)
theorem dX2_score_60 : decode cX2_score 60 = .ok (.goto 4, 3) := dk_167 0 4 (dk_at dksX2_score_2 16 rfl rfl)
theorem dX2_score_63 : decode cX2_score 63 = .ok (.iconst 0, 1) := dk_3 (dk_at dksX2_score_2 19 rfl rfl)
theorem dX2_score_64 : decode cX2_score 64 = .ok (.iadd, 1) := dk_96 (dk_at dksX2_score_2 20 rfl rfl)
theorem dX2_score_65 : decode cX2_score 65 = .ok (.istore_n 2, 1) := dk_61 (dk_at dksX2_score_2 21 rfl rfl)
theorem dX2_score_66 : decode cX2_score 66 = .ok (.iload 6, 2) := dk_21 6 (dk_at dksX2_score_2 22 rfl rfl)
theorem dX2_score_68 : decode cX2_score 68 = .ok (.iload_n 3, 1) := dk_29 (dk_at dksX2_score_3 0 rfl rfl)
theorem dX2_score_69 : decode cX2_score 69 = .ok (.if_icmp .ne 45, 3) := dk_160 0 45 (dk_at dksX2_score_3 1 rfl rfl)
theorem dX2_score_72 : decode cX2_score 72 = .ok (.iload_n 2, 1) := dk_28 (dk_at dksX2_score_3 4 rfl rfl)
theorem dX2_score_73 : decode cX2_score 73 = .ok (.aload 5, 2) := dk_25 5 (dk_at dksX2_score_3 5 rfl rfl)
theorem dX2_score_75 : decode cX2_score 75 = .ok (.invokevirtual 74, 3) := dk_182 0 74 (dk_at dksX2_score_3 7 rfl rfl)
theorem dX2_score_78 : decode cX2_score 78 = .ok (.aload_n 1, 1) := dk_43 (dk_at dksX2_score_3 10 rfl rfl)
theorem dX2_score_79 : decode cX2_score 79 = .ok (.getfield 78, 3) := dk_180 0 78 (dk_at dksX2_score_3 11 rfl rfl)
theorem dX2_score_82 : decode cX2_score 82 = .ok (.if_icmp .ne 7, 3) := dk_160 0 7 (dk_at dksX2_score_3 14 rfl rfl)
theorem dX2_score_85 : decode cX2_score 85 = .ok (.iconst 2, 1) := dk_5 (dk_at dksX2_score_3 17 rfl rfl)
theorem dX2_score_86 : decode cX2_score 86 = .ok (.goto 4, 3) := dk_167 0 4 (dk_at dksX2_score_3 18 rfl rfl)
theorem dX2_score_89 : decode cX2_score 89 = .ok (.iconst 1, 1) := dk_4 (dk_at dksX2_score_3 21 rfl rfl)
theorem dX2_score_90 : decode cX2_score 90 = .ok (.iadd, 1) := dk_96 (dk_at dksX2_score_3 22 rfl rfl)
theorem dX2_score_91 : decode cX2_score 91 = .ok (.istore_n 2, 1) := dk_61 (dk_at dksX2_score_3 23 rfl rfl)
theorem dX2_score_92 : decode cX2_score 92 = .ok (.iload_n 2, 1) := dk_28 (dk_at dksX2_score_4 0 rfl rfl)
theorem dX2_score_93 : decode cX2_score 93 = .ok (.iload 4, 2) := dk_21 4 (dk_at dksX2_score_4 1 rfl rfl)
theorem dX2_score_95 : decode cX2_score 95 = .ok (.aload_n 0, 1) := dk_42 (dk_at dksX2_score_4 3 rfl rfl)
theorem dX2_score_96 : decode cX2_score 96 = .ok (.getfield 18, 3) := dk_180 0 18 (dk_at dksX2_score_4 4 rfl rfl)
theorem dX2_score_99 : decode cX2_score 99 = .ok (.invokevirtual 28, 3) := dk_182 0 28 (dk_at dksX2_score_4 7 rfl rfl)
theorem dX2_score_102 : decode cX2_score 102 = .ok (.iconst 1, 1) := dk_4 (dk_at dksX2_score_4 10 rfl rfl)
theorem dX2_score_103 : decode cX2_score 103 = .ok (.isub, 1) := dk_100 (dk_at dksX2_score_4 11 rfl rfl)
theorem dX2_score_104 : decode cX2_score 104 = .ok (.if_icmp .ne 7, 3) := dk_160 0 7 (dk_at dksX2_score_4 12 rfl rfl)
theorem dX2_score_107 : decode cX2_score 107 = .ok (.iconst 2, 1) := dk_5 (dk_at dksX2_score_4 15 rfl rfl)
theorem dX2_score_108 : decode cX2_score 108 = .ok (.goto 4, 3) := dk_167 0 4 (dk_at dksX2_score_4 16 rfl rfl)
theorem dX2_score_111 : decode cX2_score 111 = .ok (.iconst 0, 1) := dk_3 (dk_at dksX2_score_4 19 rfl rfl)
theorem dX2_score_112 : decode cX2_score 112 = .ok (.iadd, 1) := dk_96 (dk_at dksX2_score_4 20 rfl rfl)
theorem dX2_score_113 : decode cX2_score 113 = .ok (.istore_n 2, 1) := dk_61 (dk_at dksX2_score_4 21 rfl rfl)
theorem dX2_score_114 : decode cX2_score 114 = .ok (.iinc 4 1, 3) := dk_132 4 1 (dk_at dksX2_score_5 0 rfl rfl)
theorem dX2_score_117 : decode cX2_score 117 = .ok (.goto (-104), 3) := dk_167 255 152 (dk_at dksX2_score_5 3 rfl rfl)
theorem dX2_score_120 : decode cX2_score 120 = .ok (.iload_n 2, 1) := dk_28 (dk_at dksX2_score_5 6 rfl rfl)
theorem dX2_score_121 : decode cX2_score 121 = .ok (.ireturn, 1) := dk_172 (dk_at dksX2_score_5 7 rfl rfl)
theorem dX2_likeliest_0 : decode cX2_likeliest 0 = .ok (.new 59, 3) := dk_187 0 59 (dk_at dksX2_likeliest_0 0 rfl rfl)
theorem dX2_likeliest_3 : decode cX2_likeliest 3 = .ok (.dup, 1) := dk_89 (dk_at dksX2_likeliest_0 3 rfl rfl)
theorem dX2_likeliest_4 : decode cX2_likeliest 4 = .ok (.iconst 0, 1) := dk_3 (dk_at dksX2_likeliest_0 4 rfl rfl)
theorem dX2_likeliest_5 : decode cX2_likeliest 5 = .ok (.iconst 0, 1) := dk_3 (dk_at dksX2_likeliest_0 5 rfl rfl)
theorem dX2_likeliest_6 : decode cX2_likeliest 6 = .ok (.invokespecial 81, 3) := dk_183 0 81 (dk_at dksX2_likeliest_0 6 rfl rfl)
theorem dX2_likeliest_9 : decode cX2_likeliest 9 = .ok (.astore_n 1, 1) := dk_76 (dk_at dksX2_likeliest_0 9 rfl rfl)
theorem dX2_likeliest_10 : decode cX2_likeliest 10 = .ok (.iconst 0, 1) := dk_3 (dk_at dksX2_likeliest_0 10 rfl rfl)
theorem dX2_likeliest_11 : decode cX2_likeliest 11 = .ok (.istore_n 2, 1) := dk_61 (dk_at dksX2_likeliest_0 11 rfl rfl)
theorem dX2_likeliest_12 : decode cX2_likeliest 12 = .ok (.iload_n 2, 1) := dk_28 (dk_at dksX2_likeliest_0 12 rfl rfl)
theorem dX2_likeliest_13 : decode cX2_likeliest 13 = .ok (.iconst 2, 1) := dk_5 (dk_at dksX2_likeliest_0 13 rfl rfl)
theorem dX2_likeliest_14 : decode cX2_likeliest 14 = .ok (.if_icmp .ge 78, 3) := dk_162 0 78 (dk_at dksX2_likeliest_0 14 rfl rfl)
theorem dX2_likeliest_17 : decode cX2_likeliest 17 = .ok (.iconst 0, 1) := dk_3 (dk_at dksX2_likeliest_0 17 rfl rfl)
theorem dX2_likeliest_18 : decode cX2_likeliest 18 = .ok (.istore_n 3, 1) := dk_62 (dk_at dksX2_likeliest_0 18 rfl rfl)
theorem dX2_likeliest_19 : decode cX2_likeliest 19 = .ok (.iload_n 3, 1) := dk_29 (dk_at dksX2_likeliest_0 19 rfl rfl)
theorem dX2_likeliest_20 : decode cX2_likeliest 20 = .ok (.bipush 13, 2) := dk_16 13 (dk_at dksX2_likeliest_0 20 rfl rfl)
theorem dX2_likeliest_22 : decode cX2_likeliest 22 = .ok (.if_icmp .ge 64, 3) := dk_162 0 64 (dk_at dksX2_likeliest_1 0 rfl rfl)
theorem dX2_likeliest_25 : decode cX2_likeliest 25 = .ok (.iload_n 3, 1) := dk_29 (dk_at dksX2_likeliest_1 3 rfl rfl)
theorem dX2_likeliest_26 : decode cX2_likeliest 26 = .ok (.iconst 2, 1) := dk_5 (dk_at dksX2_likeliest_1 4 rfl rfl)
theorem dX2_likeliest_27 : decode cX2_likeliest 27 = .ok (.irem, 1) := dk_112 (dk_at dksX2_likeliest_1 5 rfl rfl)
theorem dX2_likeliest_28 : decode cX2_likeliest 28 = .ok (.iconst 1, 1) := dk_4 (dk_at dksX2_likeliest_1 6 rfl rfl)
theorem dX2_likeliest_29 : decode cX2_likeliest 29 = .ok (.if_icmp .ne 11, 3) := dk_160 0 11 (dk_at dksX2_likeliest_1 7 rfl rfl)
theorem dX2_likeliest_32 : decode cX2_likeliest 32 = .ok (.iload_n 3, 1) := dk_29 (dk_at dksX2_likeliest_1 10 rfl rfl)
theorem dX2_likeliest_33 : decode cX2_likeliest 33 = .ok (.iconst 1, 1) := dk_4 (dk_at dksX2_likeliest_1 11 rfl rfl)
theorem dX2_likeliest_34 : decode cX2_likeliest 34 = .ok (.iadd, 1) := dk_96 (dk_at dksX2_likeliest_1 12 rfl rfl)
theorem dX2_likeliest_35 : decode cX2_likeliest 35 = .ok (.iconst 2, 1) := dk_5 (dk_at dksX2_likeliest_1 13 rfl rfl)
theorem dX2_likeliest_36 : decode cX2_likeliest 36 = .ok (.idiv, 1) := dk_108 (dk_at dksX2_likeliest_1 14 rfl rfl)
theorem dX2_likeliest_37 : decode cX2_likeliest 37 = .ok (.goto 7, 3) := dk_167 0 7 (dk_at dksX2_likeliest_1 15 rfl rfl)
theorem dX2_likeliest_40 : decode cX2_likeliest 40 = .ok (.iload_n 3, 1) := dk_29 (dk_at dksX2_likeliest_1 18 rfl rfl)
theorem dX2_likeliest_41 : decode cX2_likeliest 41 = .ok (.ineg, 1) := dk_116 (dk_at dksX2_likeliest_1 19 rfl rfl)
theorem dX2_likeliest_42 : decode cX2_likeliest 42 = .ok (.iconst 2, 1) := dk_5 (dk_at dksX2_likeliest_1 20 rfl rfl)
theorem dX2_likeliest_43 : decode cX2_likeliest 43 = .ok (.idiv, 1) := dk_108 (dk_at dksX2_likeliest_1 21 rfl rfl)
theorem dX2_likeliest_44 : decode cX2_likeliest 44 = .ok (.iload_n 2, 1) := dk_28 (dk_at dksX2_likeliest_1 22 rfl rfl)
theorem dX2_likeliest_45 : decode cX2_likeliest 45 = .ok (.iconst 1, 1) := dk_4 (dk_at dksX2_likeliest_1 23 rfl rfl)
theorem dX2_likeliest_46 : decode cX2_likeliest 46 = .ok (.if_icmp .ne 7, 3) := dk_160 0 7 (dk_at dksX2_likeliest_2 0 rfl rfl)
theorem dX2_likeliest_49 : decode cX2_likeliest 49 = .ok (.iconst 1, 1) := dk_4 (dk_at dksX2_likeliest_2 3 rfl rfl)
theorem dX2_likeliest_50 : decode cX2_likeliest 50 = .ok (.goto 4, 3) := dk_167 0 4 (dk_at dksX2_likeliest_2 4 rfl rfl)
theorem dX2_likeliest_53 : decode cX2_likeliest 53 = .ok (.iconst 0, 1) := dk_3 (dk_at dksX2_likeliest_2 7 rfl rfl)
theorem dX2_likeliest_54 : decode cX2_likeliest 54 = .ok (.invokestatic 84, 3) := dk_184 0 84 (dk_at dksX2_likeliest_2 8 rfl rfl)
theorem dX2_likeliest_57 : decode cX2_likeliest 57 = .ok (.astore 4, 2) := dk_58 4 (dk_at dksX2_likeliest_2 11 rfl rfl)
theorem dX2_likeliest_59 : decode cX2_likeliest 59 = .ok (.aload_n 0, 1) := dk_42 (dk_at dksX2_likeliest_2 13 rfl rfl)
theorem dX2_likeliest_60 : decode cX2_likeliest 60 = .ok (.aload 4, 2) := dk_25 4 (dk_at dksX2_likeliest_2 14 rfl rfl)
theorem dX2_likeliest_62 : decode cX2_likeliest 62 = .ok (.invokevirtual 88, 3) := dk_182 0 88 (dk_at dksX2_likeliest_2 16 rfl rfl)
theorem dX2_likeliest_65 : decode cX2_likeliest 65 = .ok (.aload_n 0, 1) := dk_42 (dk_at dksX2_likeliest_2 19 rfl rfl)
theorem dX2_likeliest_66 : decode cX2_likeliest 66 = .ok (.aload_n 1, 1) := dk_43 (dk_at dksX2_likeliest_2 20 rfl rfl)
theorem dX2_likeliest_67 : decode cX2_likeliest 67 = .ok (.invokevirtual 88, 3) := dk_182 0 88 (dk_at dksX2_likeliest_2 21 rfl rfl)
theorem dX2_likeliest_70 : decode cX2_likeliest 70 = .ok (.if_icmp .le 8, 3) := dk_164 0 8 (dk_at dksX2_likeliest_3 0 rfl rfl)
theorem dX2_likeliest_73 : decode cX2_likeliest 73 = .ok (.aload 4, 2) := dk_25 4 (dk_at dksX2_likeliest_3 3 rfl rfl)
theorem dX2_likeliest_75 : decode cX2_likeliest 75 = .ok (.goto 4, 3) := dk_167 0 4 (dk_at dksX2_likeliest_3 5 rfl rfl)
theorem dX2_likeliest_78 : decode cX2_likeliest 78 = .ok (.aload_n 1, 1) := dk_43 (dk_at dksX2_likeliest_3 8 rfl rfl)
theorem dX2_likeliest_79 : decode cX2_likeliest 79 = .ok (.astore_n 1, 1) := dk_76 (dk_at dksX2_likeliest_3 9 rfl rfl)
theorem dX2_likeliest_80 : decode cX2_likeliest 80 = .ok (.iinc 3 1, 3) := dk_132 3 1 (dk_at dksX2_likeliest_3 10 rfl rfl)
theorem dX2_likeliest_83 : decode cX2_likeliest 83 = .ok (.goto (-64), 3) := dk_167 255 192 (dk_at dksX2_likeliest_3 13 rfl rfl)
theorem dX2_likeliest_86 : decode cX2_likeliest 86 = .ok (.iinc 2 1, 3) := dk_132 2 1 (dk_at dksX2_likeliest_3 16 rfl rfl)
theorem dX2_likeliest_89 : decode cX2_likeliest 89 = .ok (.goto (-77), 3) := dk_167 255 179 (dk_at dksX2_likeliest_3 19 rfl rfl)
theorem dX2_likeliest_92 : decode cX2_likeliest 92 = .ok (.aload_n 1, 1) := dk_43 (dk_at dksX2_likeliest_3 22 rfl rfl)
theorem dX2_likeliest_93 : decode cX2_likeliest 93 = .ok (.areturn, 1) := dk_176 (dk_at dksX2_likeliest_3 23 rfl rfl)
theorem dX2_insert_0 : decode cX2_insert 0 = .ok (.iconst 0, 1) := dk_3 (dk_at dksX2_insert_0 0 rfl rfl)
theorem dX2_insert_1 : decode cX2_insert 1 = .ok (.istore_n 2, 1) := dk_61 (dk_at dksX2_insert_0 1 rfl rfl)
theorem dX2_insert_2 : decode cX2_insert 2 = .ok (.iload_n 2, 1) := dk_28 (dk_at dksX2_insert_0 2 rfl rfl)
theorem dX2_insert_3 : decode cX2_insert 3 = .ok (.aload_n 0, 1) := dk_42 (dk_at dksX2_insert_0 3 rfl rfl)
theorem dX2_insert_4 : decode cX2_insert 4 = .ok (.getfield 18, 3) := dk_180 0 18 (dk_at dksX2_insert_0 4 rfl rfl)
theorem dX2_insert_7 : decode cX2_insert 7 = .ok (.invokevirtual 28, 3) := dk_182 0 28 (dk_at dksX2_insert_0 7 rfl rfl)
theorem dX2_insert_10 : decode cX2_insert 10 = .ok (.if_icmp .ge 27, 3) := dk_162 0 27 (dk_at dksX2_insert_0 10 rfl rfl)
theorem dX2_insert_13 : decode cX2_insert 13 = .ok (.aload_n 0, 1) := dk_42 (dk_at dksX2_insert_0 13 rfl rfl)
theorem dX2_insert_14 : decode cX2_insert 14 = .ok (.getfield 18, 3) := dk_180 0 18 (dk_at dksX2_insert_0 14 rfl rfl)
theorem dX2_insert_17 : decode cX2_insert 17 = .ok (.iload_n 2, 1) := dk_28 (dk_at dksX2_insert_0 17 rfl rfl)
theorem dX2_insert_18 : decode cX2_insert 18 = .ok (.invokevirtual 32, 3) := dk_182 0 32 (dk_at dksX2_insert_0 18 rfl rfl)
theorem dX2_insert_21 : decode cX2_insert 21 = .ok (.checkcast 42, 3) := dk_192 0 42 (dk_at dksX2_insert_0 21 rfl rfl)
theorem dX2_insert_24 : decode cX2_insert 24 = .ok (.aload_n 1, 1) := dk_43 (dk_at dksX2_insert_1 0 rfl rfl)
theorem dX2_insert_25 : decode cX2_insert 25 = .ok (.invokestatic 44, 3) := dk_184 0 44 (dk_at dksX2_insert_1 1 rfl rfl)
theorem dX2_insert_28 : decode cX2_insert 28 = .ok (.ifCond .ne 9, 3) := dk_154 0 9 (dk_at dksX2_insert_1 4 rfl rfl)
theorem dX2_insert_31 : decode cX2_insert 31 = .ok (.iinc 2 1, 3) := dk_132 2 1 (dk_at dksX2_insert_1 7 rfl rfl)
theorem dX2_insert_34 : decode cX2_insert 34 = .ok (.goto (-32), 3) := dk_167 255 224 (dk_at dksX2_insert_1 10 rfl rfl)
theorem dX2_insert_37 : decode cX2_insert 37 = .ok (.aload_n 0, 1) := dk_42 (dk_at dksX2_insert_1 13 rfl rfl)
theorem dX2_insert_38 : decode cX2_insert 38 = .ok (.getfield 18, 3) := dk_180 0 18 (dk_at dksX2_insert_1 14 rfl rfl)
theorem dX2_insert_41 : decode cX2_insert 41 = .ok (.iload_n 2, 1) := dk_28 (dk_at dksX2_insert_1 17 rfl rfl)
theorem dX2_insert_42 : decode cX2_insert 42 = .ok (.aload_n 1, 1) := dk_43 (dk_at dksX2_insert_1 18 rfl rfl)
theorem dX2_insert_43 : decode cX2_insert 43 = .ok (.invokevirtual 48, 3) := dk_182 0 48 (dk_at dksX2_insert_1 19 rfl rfl)
theorem dX2_insert_46 : decode cX2_insert 46 = .ok (.iload_n 2, 1) := dk_28 (dk_at dksX2_insert_1 22 rfl rfl)
theorem dX2_insert_47 : decode cX2_insert 47 = .ok (.ireturn, 1) := dk_172 (dk_at dksX2_insert_1 23 rfl rfl)
theorem dX2_copied_0 : decode cX2_copied 0 = .ok (.new 13, 3) := dk_187 0 13 (dk_at dksX2_copied_0 0 rfl rfl)
theorem dX2_copied_3 : decode cX2_copied 3 = .ok (.dup, 1) := dk_89 (dk_at dksX2_copied_0 3 rfl rfl)
theorem dX2_copied_4 : decode cX2_copied 4 = .ok (.aload_n 0, 1) := dk_42 (dk_at dksX2_copied_0 4 rfl rfl)
theorem dX2_copied_5 : decode cX2_copied 5 = .ok (.getfield 21, 3) := dk_180 0 21 (dk_at dksX2_copied_0 5 rfl rfl)
theorem dX2_copied_8 : decode cX2_copied 8 = .ok (.invokespecial 25, 3) := dk_183 0 25 (dk_at dksX2_copied_0 8 rfl rfl)
theorem dX2_copied_11 : decode cX2_copied 11 = .ok (.astore_n 1, 1) := dk_76 (dk_at dksX2_copied_0 11 rfl rfl)
theorem dX2_copied_12 : decode cX2_copied 12 = .ok (.iconst 0, 1) := dk_3 (dk_at dksX2_copied_0 12 rfl rfl)
theorem dX2_copied_13 : decode cX2_copied 13 = .ok (.istore_n 2, 1) := dk_61 (dk_at dksX2_copied_0 13 rfl rfl)
theorem dX2_copied_14 : decode cX2_copied 14 = .ok (.iload_n 2, 1) := dk_28 (dk_at dksX2_copied_0 14 rfl rfl)
theorem dX2_copied_15 : decode cX2_copied 15 = .ok (.aload_n 0, 1) := dk_42 (dk_at dksX2_copied_0 15 rfl rfl)
theorem dX2_copied_16 : decode cX2_copied 16 = .ok (.getfield 12, 3) := dk_180 0 12 (dk_at dksX2_copied_0 16 rfl rfl)
theorem dX2_copied_19 : decode cX2_copied 19 = .ok (.invokevirtual 28, 3) := dk_182 0 28 (dk_at dksX2_copied_0 19 rfl rfl)
theorem dX2_copied_22 : decode cX2_copied 22 = .ok (.if_icmp .ge 28, 3) := dk_162 0 28 (dk_at dksX2_copied_1 0 rfl rfl)
theorem dX2_copied_25 : decode cX2_copied 25 = .ok (.aload_n 1, 1) := dk_43 (dk_at dksX2_copied_1 3 rfl rfl)
theorem dX2_copied_26 : decode cX2_copied 26 = .ok (.getfield 12, 3) := dk_180 0 12 (dk_at dksX2_copied_1 4 rfl rfl)
theorem dX2_copied_29 : decode cX2_copied 29 = .ok (.aload_n 0, 1) := dk_42 (dk_at dksX2_copied_1 7 rfl rfl)
theorem dX2_copied_30 : decode cX2_copied 30 = .ok (.getfield 12, 3) := dk_180 0 12 (dk_at dksX2_copied_1 8 rfl rfl)
theorem dX2_copied_33 : decode cX2_copied 33 = .ok (.iload_n 2, 1) := dk_28 (dk_at dksX2_copied_1 11 rfl rfl)
theorem dX2_copied_34 : decode cX2_copied 34 = .ok (.invokevirtual 32, 3) := dk_182 0 32 (dk_at dksX2_copied_1 12 rfl rfl)
theorem dX2_copied_37 : decode cX2_copied 37 = .ok (.checkcast 36, 3) := dk_192 0 36 (dk_at dksX2_copied_1 15 rfl rfl)
theorem dX2_copied_40 : decode cX2_copied 40 = .ok (.invokevirtual 38, 3) := dk_182 0 38 (dk_at dksX2_copied_1 18 rfl rfl)
theorem dX2_copied_43 : decode cX2_copied 43 = .ok (.pop, 1) := dk_87 (dk_at dksX2_copied_1 21 rfl rfl)
theorem dX2_copied_44 : decode cX2_copied 44 = .ok (.iinc 2 1, 3) := dk_132 2 1 (dk_at dksX2_copied_2 0 rfl rfl)
theorem dX2_copied_47 : decode cX2_copied 47 = .ok (.goto (-33), 3) := dk_167 255 223 (dk_at dksX2_copied_2 3 rfl rfl)
theorem dX2_copied_50 : decode cX2_copied 50 = .ok (.iconst 0, 1) := dk_3 (dk_at dksX2_copied_2 6 rfl rfl)
theorem dX2_copied_51 : decode cX2_copied 51 = .ok (.istore_n 2, 1) := dk_61 (dk_at dksX2_copied_2 7 rfl rfl)
theorem dX2_copied_52 : decode cX2_copied 52 = .ok (.iload_n 2, 1) := dk_28 (dk_at dksX2_copied_2 8 rfl rfl)
theorem dX2_copied_53 : decode cX2_copied 53 = .ok (.aload_n 0, 1) := dk_42 (dk_at dksX2_copied_2 9 rfl rfl)
theorem dX2_copied_54 : decode cX2_copied 54 = .ok (.getfield 18, 3) := dk_180 0 18 (dk_at dksX2_copied_2 10 rfl rfl)
theorem dX2_copied_57 : decode cX2_copied 57 = .ok (.invokevirtual 28, 3) := dk_182 0 28 (dk_at dksX2_copied_2 13 rfl rfl)
theorem dX2_copied_60 : decode cX2_copied 60 = .ok (.if_icmp .ge 28, 3) := dk_162 0 28 (dk_at dksX2_copied_2 16 rfl rfl)
theorem dX2_copied_63 : decode cX2_copied 63 = .ok (.aload_n 1, 1) := dk_43 (dk_at dksX2_copied_2 19 rfl rfl)
theorem dX2_copied_64 : decode cX2_copied 64 = .ok (.getfield 18, 3) := dk_180 0 18 (dk_at dksX2_copied_2 20 rfl rfl)
theorem dX2_copied_67 : decode cX2_copied 67 = .ok (.aload_n 0, 1) := dk_42 (dk_at dksX2_copied_2 23 rfl rfl)
theorem dX2_copied_68 : decode cX2_copied 68 = .ok (.getfield 18, 3) := dk_180 0 18 (dk_at dksX2_copied_3 0 rfl rfl)
theorem dX2_copied_71 : decode cX2_copied 71 = .ok (.iload_n 2, 1) := dk_28 (dk_at dksX2_copied_3 3 rfl rfl)
theorem dX2_copied_72 : decode cX2_copied 72 = .ok (.invokevirtual 32, 3) := dk_182 0 32 (dk_at dksX2_copied_3 4 rfl rfl)
theorem dX2_copied_75 : decode cX2_copied 75 = .ok (.checkcast 42, 3) := dk_192 0 42 (dk_at dksX2_copied_3 7 rfl rfl)
theorem dX2_copied_78 : decode cX2_copied 78 = .ok (.invokevirtual 38, 3) := dk_182 0 38 (dk_at dksX2_copied_3 10 rfl rfl)
theorem dX2_copied_81 : decode cX2_copied 81 = .ok (.pop, 1) := dk_87 (dk_at dksX2_copied_3 13 rfl rfl)
theorem dX2_copied_82 : decode cX2_copied 82 = .ok (.iinc 2 1, 3) := dk_132 2 1 (dk_at dksX2_copied_3 14 rfl rfl)
theorem dX2_copied_85 : decode cX2_copied 85 = .ok (.goto (-33), 3) := dk_167 255 223 (dk_at dksX2_copied_3 17 rfl rfl)
theorem dX2_copied_88 : decode cX2_copied 88 = .ok (.aload_n 1, 1) := dk_43 (dk_at dksX2_copied_3 20 rfl rfl)
theorem dX2_copied_89 : decode cX2_copied 89 = .ok (.areturn, 1) := dk_176 (dk_at dksX2_copied_3 21 rfl rfl)
theorem q116 : (Jvm.Cond.instantiable "ChordSheet$Sheet" (3 : Nat)) ∈ lw_all := lw_g (lw_at lw_m1 54 rfl) rfl
theorem q124 : (Jvm.Cond.fieldLinkNest "ChordSheet$Sheet" (58 : Nat) "ChordSheet$Key" "tonic" "I" "ChordSheet") ∈ lw_tbl := lw_at lw_m1 62 rfl
theorem q127 : (Jvm.Cond.fieldLinkNest "ChordSheet$Sheet" (78 : Nat) "ChordSheet$Key" "isMinor" "Z" "ChordSheet") ∈ lw_tbl := lw_at lw_m1 65 rfl
theorem q136 : (Jvm.Cond.instanceMethod ({ cls := "ChordSheet$Sheet", name := "<init>", desc := "(LChordSheet$Key;)V" } : Jvm.MethodName)) ∈ lw_all := lw_g (lw_at lw_m1 74 rfl) rfl
theorem q137 : (Jvm.Cond.code ({ cls := "ChordSheet$Sheet", name := "<init>", desc := "(LChordSheet$Key;)V" } : Jvm.MethodName) prog_7_method_1_code (2 : Nat) (Option.none : Option Jvm.ClassFile.FieldType)) ∈ lw_all := lw_g (lw_at lw_m1 75 rfl) rfl
theorem q138 : (Jvm.Cond.methodLink "ChordSheet$Sheet" (3 : Nat) ({ cls := "java/lang/Object", name := "<init>", desc := "()V" } : Jvm.MethodName)) ∈ lw_all := lw_g (lw_at lw_m1 76 rfl) rfl
theorem q139 : (Jvm.Cond.classLink "ChordSheet$Sheet" (9 : Nat) "java/util/ArrayList") ∈ lw_all := lw_g (lw_at lw_m1 77 rfl) rfl
theorem q140 : (Jvm.Cond.instantiable "java/util/ArrayList" (3 : Nat)) ∈ lw_all := lw_g (lw_at lw_m1 78 rfl) rfl
theorem q141 : (Jvm.Cond.methodLink "ChordSheet$Sheet" (11 : Nat) ({ cls := "java/util/ArrayList", name := "<init>", desc := "()V" } : Jvm.MethodName)) ∈ lw_all := lw_g (lw_at lw_m1 79 rfl) rfl
theorem q142 : (Jvm.Cond.instanceMethod ({ cls := "java/util/ArrayList", name := "<init>", desc := "()V" } : Jvm.MethodName)) ∈ lw_all := lw_g (lw_at lw_m1 80 rfl) rfl
theorem q143 : (Jvm.Cond.code ({ cls := "java/util/ArrayList", name := "<init>", desc := "()V" } : Jvm.MethodName) prog_44_method_2_code (1 : Nat) (Option.none : Option Jvm.ClassFile.FieldType)) ∈ lw_all := lw_g (lw_at lw_m1 81 rfl) rfl
theorem q165 : (Jvm.Cond.fieldLink "ChordSheet$Sheet" (12 : Nat) "ChordSheet$Sheet" "lines" "Ljava/util/ArrayList;") ∈ lw_all := lw_g (lw_at lw_m1 103 rfl) rfl
theorem q169 : (Jvm.Cond.fieldLink "ChordSheet$Sheet" (18 : Nat) "ChordSheet$Sheet" "chords" "Ljava/util/ArrayList;") ∈ lw_all := lw_g (lw_at lw_m1 107 rfl) rfl
theorem q173 : (Jvm.Cond.fieldLink "ChordSheet$Sheet" (21 : Nat) "ChordSheet$Sheet" "key" "LChordSheet$Key;") ∈ lw_all := lw_g (lw_at lw_m1 111 rfl) rfl
theorem q1807 : (Jvm.Cond.methodLink "ChordSheet$Sheet" (44 : Nat) ({ cls := "ChordSheet$Sheet", name := "isBehind", desc := "(LChordSheet$Chord;LChordSheet$Chord;)Z" } : Jvm.MethodName)) ∈ lw_all := lw_g (lw_at lw_m8 65 rfl) rfl
theorem q1808 : (Jvm.Cond.static ({ cls := "ChordSheet$Sheet", name := "isBehind", desc := "(LChordSheet$Chord;LChordSheet$Chord;)Z" } : Jvm.MethodName)) ∈ lw_all := lw_g (lw_at lw_m8 66 rfl) rfl
theorem q1809 : (Jvm.Cond.code ({ cls := "ChordSheet$Sheet", name := "isBehind", desc := "(LChordSheet$Chord;LChordSheet$Chord;)Z" } : Jvm.MethodName) prog_7_method_4_code (2 : Nat) (Option.some Jvm.ClassFile.FieldType.boolean)) ∈ lw_all := lw_g (lw_at lw_m8 67 rfl) rfl
theorem q1810 : (Jvm.Cond.methodLink "ChordSheet$Sheet" (48 : Nat) ({ cls := "java/util/ArrayList", name := "add", desc := "(ILjava/lang/Object;)V" } : Jvm.MethodName)) ∈ lw_all := lw_g (lw_at lw_m8 68 rfl) rfl
theorem q1811 : (Jvm.Cond.instanceMethod ({ cls := "java/util/ArrayList", name := "add", desc := "(ILjava/lang/Object;)V" } : Jvm.MethodName)) ∈ lw_all := lw_g (lw_at lw_m8 69 rfl) rfl
theorem q1812 : (Jvm.Cond.selects "java/util/ArrayList" ({ cls := "java/util/ArrayList", name := "add", desc := "(ILjava/lang/Object;)V" } : Jvm.MethodName) ({ cls := "java/util/ArrayList", name := "add", desc := "(ILjava/lang/Object;)V" } : Jvm.MethodName)) ∈ lw_all := lw_g (lw_at lw_m8 70 rfl) rfl
theorem q1813 : (Jvm.Cond.code ({ cls := "java/util/ArrayList", name := "add", desc := "(ILjava/lang/Object;)V" } : Jvm.MethodName) prog_44_method_26_code (5 : Nat) (Option.none : Option Jvm.ClassFile.FieldType)) ∈ lw_all := lw_g (lw_at lw_m8 71 rfl) rfl
theorem q204 : (Jvm.Cond.instanceMethod ({ cls := "java/util/ArrayList", name := "add", desc := "(Ljava/lang/Object;)Z" } : Jvm.MethodName)) ∈ lw_all := lw_g (lw_at lw_m1 142 rfl) rfl
theorem q205 : (Jvm.Cond.selects "java/util/ArrayList" ({ cls := "java/util/ArrayList", name := "add", desc := "(Ljava/lang/Object;)Z" } : Jvm.MethodName) ({ cls := "java/util/ArrayList", name := "add", desc := "(Ljava/lang/Object;)Z" } : Jvm.MethodName)) ∈ lw_all := lw_g (lw_at lw_m1 143 rfl) rfl
theorem q206 : (Jvm.Cond.code ({ cls := "java/util/ArrayList", name := "add", desc := "(Ljava/lang/Object;)Z" } : Jvm.MethodName) prog_44_method_25_code (2 : Nat) (Option.some Jvm.ClassFile.FieldType.boolean)) ∈ lw_all := lw_g (lw_at lw_m1 144 rfl) rfl
theorem q2508 : (Jvm.Cond.castable "ChordSheet$Chord" "java/lang/Object") ∈ lw_tbl := lw_at lw_m11 46 rfl
theorem q2509 : (Jvm.Cond.castable "java/lang/String" "java/lang/Object") ∈ lw_tbl := lw_at lw_m11 47 rfl
theorem q367 : (Jvm.Cond.instanceMethod ({ cls := "java/util/ArrayList", name := "size", desc := "()I" } : Jvm.MethodName)) ∈ lw_all := lw_g (lw_at lw_m2 65 rfl) rfl
theorem q368 : (Jvm.Cond.selects "java/util/ArrayList" ({ cls := "java/util/ArrayList", name := "size", desc := "()I" } : Jvm.MethodName) ({ cls := "java/util/ArrayList", name := "size", desc := "()I" } : Jvm.MethodName)) ∈ lw_all := lw_g (lw_at lw_m2 66 rfl) rfl
theorem q369 : (Jvm.Cond.code ({ cls := "java/util/ArrayList", name := "size", desc := "()I" } : Jvm.MethodName) prog_44_method_8_code (1 : Nat) (Option.some Jvm.ClassFile.FieldType.int)) ∈ lw_all := lw_g (lw_at lw_m2 67 rfl) rfl
theorem q591 : (Jvm.Cond.fieldLinkNest "ChordSheet$Sheet" (51 : Nat) "ChordSheet$Chord" "line" "I" "ChordSheet") ∈ lw_tbl := lw_at lw_m3 49 rfl
theorem q595 : (Jvm.Cond.fieldLinkNest "ChordSheet$Sheet" (55 : Nat) "ChordSheet$Chord" "column" "I" "ChordSheet") ∈ lw_tbl := lw_at lw_m3 53 rfl
theorem q599 : (Jvm.Cond.fieldLinkNest "ChordSheet$Sheet" (67 : Nat) "ChordSheet$Chord" "root" "I" "ChordSheet") ∈ lw_tbl := lw_at lw_m3 57 rfl
theorem q64 : (Jvm.Cond.initialized "ChordSheet$Sheet") ∈ lw_all := lw_g (lw_at lw_m1 2 rfl) rfl
theorem q885 : (Jvm.Cond.classLink "ChordSheet$Sheet" (59 : Nat) "ChordSheet$Key") ∈ lw_all := lw_g (lw_at lw_m4 103 rfl) rfl
theorem q886 : (Jvm.Cond.methodLink "ChordSheet$Sheet" (81 : Nat) ({ cls := "ChordSheet$Key", name := "<init>", desc := "(IZ)V" } : Jvm.MethodName)) ∈ lw_all := lw_g (lw_at lw_m4 104 rfl) rfl
theorem q887 : (Jvm.Cond.methodLink "ChordSheet$Sheet" (84 : Nat) ({ cls := "ChordSheet$Key", name := "ofSignature", desc := "(IZ)LChordSheet$Key;" } : Jvm.MethodName)) ∈ lw_all := lw_g (lw_at lw_m4 105 rfl) rfl
theorem q892 : (Jvm.Cond.methodLink "ChordSheet$Sheet" (88 : Nat) ({ cls := "ChordSheet$Sheet", name := "score", desc := "(LChordSheet$Key;)I" } : Jvm.MethodName)) ∈ lw_all := lw_g (lw_at lw_m4 110 rfl) rfl
theorem q893 : (Jvm.Cond.instanceMethod ({ cls := "ChordSheet$Sheet", name := "score", desc := "(LChordSheet$Key;)I" } : Jvm.MethodName)) ∈ lw_all := lw_g (lw_at lw_m4 111 rfl) rfl
theorem q894 : (Jvm.Cond.selects "ChordSheet$Sheet" ({ cls := "ChordSheet$Sheet", name := "score", desc := "(LChordSheet$Key;)I" } : Jvm.MethodName) ({ cls := "ChordSheet$Sheet", name := "score", desc := "(LChordSheet$Key;)I" } : Jvm.MethodName)) ∈ lw_all := lw_g (lw_at lw_m4 112 rfl) rfl
theorem q895 : (Jvm.Cond.code ({ cls := "ChordSheet$Sheet", name := "score", desc := "(LChordSheet$Key;)I" } : Jvm.MethodName) prog_7_method_5_code (7 : Nat) (Option.some Jvm.ClassFile.FieldType.int)) ∈ lw_all := lw_g (lw_at lw_m4 113 rfl) rfl
theorem q896 : (Jvm.Cond.methodLinkNest "ChordSheet$Sheet" (63 : Nat) ({ cls := "ChordSheet", name := "pitchClass", desc := "(I)I" } : Jvm.MethodName) "ChordSheet") ∈ lw_tbl := lw_at lw_m4 114 rfl
theorem q902 : (Jvm.Cond.methodLink "ChordSheet$Sheet" (28 : Nat) ({ cls := "java/util/ArrayList", name := "size", desc := "()I" } : Jvm.MethodName)) ∈ lw_all := lw_g (lw_at lw_m4 120 rfl) rfl
theorem q903 : (Jvm.Cond.methodLink "ChordSheet$Sheet" (32 : Nat) ({ cls := "java/util/ArrayList", name := "get", desc := "(I)Ljava/lang/Object;" } : Jvm.MethodName)) ∈ lw_all := lw_g (lw_at lw_m4 121 rfl) rfl
theorem q904 : (Jvm.Cond.instanceMethod ({ cls := "java/util/ArrayList", name := "get", desc := "(I)Ljava/lang/Object;" } : Jvm.MethodName)) ∈ lw_all := lw_g (lw_at lw_m4 122 rfl) rfl
theorem q905 : (Jvm.Cond.selects "java/util/ArrayList" ({ cls := "java/util/ArrayList", name := "get", desc := "(I)Ljava/lang/Object;" } : Jvm.MethodName) ({ cls := "java/util/ArrayList", name := "get", desc := "(I)Ljava/lang/Object;" } : Jvm.MethodName)) ∈ lw_all := lw_g (lw_at lw_m4 123 rfl) rfl
theorem q906 : (Jvm.Cond.code ({ cls := "java/util/ArrayList", name := "get", desc := "(I)Ljava/lang/Object;" } : Jvm.MethodName) prog_44_method_20_code (2 : Nat) (Option.some (Jvm.ClassFile.FieldType.object "java/lang/Object"))) ∈ lw_all := lw_g (lw_at lw_m4 124 rfl) rfl
theorem q915 : (Jvm.Cond.classLink "ChordSheet$Sheet" (42 : Nat) "ChordSheet$Chord") ∈ lw_all := lw_g (lw_at lw_m4 133 rfl) rfl
theorem q916 : (Jvm.Cond.methodLink "ChordSheet$Sheet" (70 : Nat) ({ cls := "ChordSheet$Key", name := "hasInScale", desc := "(I)Z" } : Jvm.MethodName)) ∈ lw_all := lw_g (lw_at lw_m4 134 rfl) rfl
theorem q927 : (Jvm.Cond.methodLink "ChordSheet$Sheet" (74 : Nat) ({ cls := "ChordSheet$Chord", name := "isMinor", desc := "()Z" } : Jvm.MethodName)) ∈ lw_all := lw_g (lw_at lw_m4 145 rfl) rfl
theorem q928 : (Jvm.Cond.instanceMethod ({ cls := "ChordSheet$Chord", name := "isMinor", desc := "()Z" } : Jvm.MethodName)) ∈ lw_all := lw_g (lw_at lw_m4 146 rfl) rfl
theorem q929 : (Jvm.Cond.selects "ChordSheet$Chord" ({ cls := "ChordSheet$Chord", name := "isMinor", desc := "()Z" } : Jvm.MethodName) ({ cls := "ChordSheet$Chord", name := "isMinor", desc := "()Z" } : Jvm.MethodName)) ∈ lw_all := lw_g (lw_at lw_m4 147 rfl) rfl
theorem q930 : (Jvm.Cond.code ({ cls := "ChordSheet$Chord", name := "isMinor", desc := "()Z" } : Jvm.MethodName) prog_2_method_4_code (1 : Nat) (Option.some Jvm.ClassFile.FieldType.boolean)) ∈ lw_all := lw_g (lw_at lw_m4 148 rfl) rfl
theorem q960 : (Jvm.Cond.classLink "ChordSheet$Sheet" (13 : Nat) "ChordSheet$Sheet") ∈ lw_all := lw_g (lw_at lw_m4 178 rfl) rfl
theorem q961 : (Jvm.Cond.methodLink "ChordSheet$Sheet" (25 : Nat) ({ cls := "ChordSheet$Sheet", name := "<init>", desc := "(LChordSheet$Key;)V" } : Jvm.MethodName)) ∈ lw_all := lw_g (lw_at lw_m4 179 rfl) rfl
theorem q962 : (Jvm.Cond.classLink "ChordSheet$Sheet" (36 : Nat) "java/lang/String") ∈ lw_all := lw_g (lw_at lw_m4 180 rfl) rfl
theorem q963 : (Jvm.Cond.methodLink "ChordSheet$Sheet" (38 : Nat) ({ cls := "java/util/ArrayList", name := "add", desc := "(Ljava/lang/Object;)Z" } : Jvm.MethodName)) ∈ lw_all := lw_g (lw_at lw_m4 181 rfl) rfl
/-- an ArrayList that changes no more -/
def flAt (h : zH) (a : Nat) (xs : List Nat) : Prop := ∃ (m : Int) (e n : Nat) (f : Nat → Value), h a = some (false, .inr (10, [.int (iI m), .ref e, .int (iI ((xs.length : Nat) : Int))])) ∧ h e = some (false, .inl (.object "java/lang/Object", n, f)) ∧ xs.length ≤ n ∧ n ≤ 100000 ∧ ∀ (j q : Nat), xs[j]? = some q → f j = .ref q
theorem flAt.keep {h h' : zH} {a : Nat} {xs S : List Nat} (k : zkeep h h' S) (hf : flAt h a xs) : flAt h' a xs := by
  obtain ⟨m, e, n, f, h1, h2, h3⟩ := hf
  exact ⟨m, e, n, f, k.f h1, k.f h2, h3⟩
abbrev zCh : Type := Int × Int × Int × Int × Int
def cAt (h : zH) (q : Nat) (c : zCh) : Prop := h q = some (false, .inr (6, [.int (iI c.1), .int (iI c.2.1), .int (iI c.2.2.1), .int (iI c.2.2.2.1), .int (iI c.2.2.2.2)]))
theorem cAt.keep {h h' : zH} {q : Nat} {c : zCh} {S : List Nat} (k : zkeep h h' S) (hc : cAt h q c) : cAt h' q c := k.f hc
/-- a chord's ranges -/
def crg (c : zCh) : Prop := (0 ≤ c.1 ∧ c.1 ≤ 300) ∧ (0 ≤ c.2.1 ∧ c.2.1 ≤ 300) ∧ (-15 ≤ c.2.2.1 ∧ c.2.2.1 ≤ 19) ∧ (0 ≤ c.2.2.2.1 ∧ c.2.2.2.1 ≤ 9) ∧ (c.2.2.2.2 = 100 ∨ (-15 ≤ c.2.2.2.2 ∧ c.2.2.2.2 ≤ 19))
/-- an array whose places hold chords -/
def clA (h : zH) (f : Nat → Value) (cs : List zCh) : Prop := ∀ (j : Nat) (c : zCh), cs[j]? = some c → ∃ q, f j = .ref q ∧ cAt h q c
theorem clA.keep {h h' : zH} {f : Nat → Value} {cs : List zCh} {S : List Nat} (k : zkeep h h' S) (hc : clA h f cs) : clA h' f cs := fun j c e => by
  obtain ⟨q, h1, h2⟩ := hc j c e
  exact ⟨q, h1, h2.keep k⟩
theorem Z.freezeL {X : zT} {h : zH} {kc ks : Nat} {L : List (Nat × Value)} {pc : Nat} {st : List Value} {Γ : zCx} {a e cap : Nat} {xs : List Nat} (hl : lAt Γ h a e xs cap) (K : ∀ h1, flAt h1 a xs → zkeep h h1 [a, e] → Z X h1 kc ks L pc st) : Z X h kc ks L pc st := by
  obtain ⟨m, f, h1, h2, h3, h4, h5, h6, h7, h8⟩ := hl
  have hne : e ≠ a := Ne.symm (zneA h1 h2)
  refine Z.freeze h1 ?_
  have k1 : zkeep h (zup h a (false, .inr (10, [.int (iI m), .ref e, .int (iI ((xs.length : Nat) : Int))]))) [a, e] := zkeep.up zkeep.rf (Or.inl (by simp)) h1
  have e2 : zup h a (false, .inr (10, [.int (iI m), .ref e, .int (iI ((xs.length : Nat) : Int))])) e = _ := (zup_n hne).trans h2
  by_cases hc : cap = 0
  · subst hc
    exact K _ ⟨m, e, 0, f, zup_s, e2, h5, h6, h7⟩ k1
  · rw [show decide (cap ≠ 0) = true from decide_eq_true hc] at e2
    refine Z.freeze e2 (K _ ⟨m, e, cap, f, ?_, zup_s, h5, h6, h7⟩ (zkeep.up k1 (Or.inl (by simp)) e2))
    rw [zup_n (Ne.symm hne), zup_s]
/-- the chords of a list of addresses -/
def ycs (h : zH) (ys : List Nat) (cs : List zCh) : Prop := ∃ ps : List (Nat × zCh), ys = ps.map (·.1) ∧ cs = ps.map (·.2) ∧ ∀ p ∈ ps, cAt h p.1 p.2
theorem ycs.keep {h h' : zH} {ys : List Nat} {cs : List zCh} {S : List Nat} (k : zkeep h h' S) (hy : ycs h ys cs) : ycs h' ys cs := by
  obtain ⟨ps, h1, h2, h3⟩ := hy
  exact ⟨ps, h1, h2, fun p hp => (h3 p hp).keep k⟩
theorem ycs.len {h : zH} {ys : List Nat} {cs : List zCh} (hy : ycs h ys cs) : ys.length = cs.length := by
  obtain ⟨ps, rfl, rfl, -⟩ := hy
  simp
theorem ycs.at {h : zH} {ys : List Nat} {cs : List zCh} (hy : ycs h ys cs) {j : Nat} {c : zCh} (hc : cs[j]? = some c) : ∃ q, ys[j]? = some q ∧ cAt h q c := by
  obtain ⟨ps, rfl, rfl, h3⟩ := hy
  rw [List.getElem?_map] at hc
  cases e : ps[j]? with
  | none => rw [e] at hc; cases hc
  | some p =>
    rw [e] at hc
    cases hc
    exact ⟨p.1, by rw [List.getElem?_map, e]; rfl, h3 p (List.mem_of_getElem? e)⟩
theorem ycs.cl {h : zH} {ys : List Nat} {cs : List zCh} {f : Nat → Value} (hy : ycs h ys cs) (lx : ∀ (j q : Nat), ys[j]? = some q → f j = .ref q) : clA h f cs := fun j c hc => by
  obtain ⟨q, h1, h2⟩ := hy.at hc
  exact ⟨q, lx j q h1, h2⟩
theorem ycs.app {h : zH} {ys : List Nat} {cs : List zCh} {q : Nat} {c : zCh} (hy : ycs h ys cs) (hq : cAt h q c) : ycs h (ys ++ [q]) (cs ++ [c]) := by
  obtain ⟨ps, rfl, rfl, h3⟩ := hy
  refine ⟨ps ++ [(q, c)], by simp, by simp, fun p hp => ?_⟩
  rcases List.mem_append.mp hp with e | e
  · exact h3 p e
  · rw [List.mem_singleton.mp e]; exact hq
theorem ycs.ins {h : zH} {ys : List Nat} {cs : List zCh} {q i : Nat} {c : zCh} (hy : ycs h ys cs) (hq : cAt h q c) : ycs h (ys.take i ++ q :: ys.drop i) (cs.take i ++ c :: cs.drop i) := by
  obtain ⟨ps, rfl, rfl, h3⟩ := hy
  refine ⟨ps.take i ++ (q, c) :: ps.drop i, by simp, by simp, fun p hp => ?_⟩
  rcases List.mem_append.mp hp with e | e
  · exact h3 p (List.mem_of_mem_take e)
  · rcases List.mem_cons.mp e with e | e
    · rw [e]; exact hq
    · exact h3 p (List.mem_of_mem_drop e)
theorem ycs.st {h : zH} {ys : List Nat} {cs : List zCh} {q i : Nat} {c : zCh} (hy : ycs h ys cs) (hq : cAt h q c) : ycs h (ys.set i q) (cs.set i c) := by
  obtain ⟨ps, rfl, rfl, h3⟩ := hy
  refine ⟨ps.set i (q, c), by simp, by simp, fun p hp => ?_⟩
  rcases List.mem_or_eq_of_mem_set hp with e | e
  · exact h3 p e
  · rw [e]; exact hq
theorem ycs.rm {h : zH} {ys : List Nat} {cs : List zCh} {i : Nat} (hy : ycs h ys cs) : ycs h (ys.eraseIdx i) (cs.eraseIdx i) := by
  obtain ⟨ps, rfl, rfl, h3⟩ := hy
  exact ⟨ps.eraseIdx i, by simp [List.eraseIdx_eq_take_drop_succ], by simp [List.eraseIdx_eq_take_drop_succ], fun p hp => h3 p (List.mem_of_mem_eraseIdx hp)⟩
/-- the texts of a list of addresses -/
def sls (h : zH) (ys : List Nat) (ls : List (List Int)) : Prop := ∃ ps : List (Nat × List Int), ys = ps.map (·.1) ∧ ls = ps.map (·.2) ∧ ∀ p ∈ ps, sAt h p.1 p.2
theorem sls.keep {h h' : zH} {ys : List Nat} {ls : List (List Int)} {S : List Nat} (k : zkeep h h' S) (hy : sls h ys ls) : sls h' ys ls := by
  obtain ⟨ps, h1, h2, h3⟩ := hy
  exact ⟨ps, h1, h2, fun p hp => (h3 p hp).keep k⟩
theorem sls.len {h : zH} {ys : List Nat} {ls : List (List Int)} (hy : sls h ys ls) : ys.length = ls.length := by
  obtain ⟨ps, rfl, rfl, -⟩ := hy
  simp
theorem sls.at {h : zH} {ys : List Nat} {ls : List (List Int)} (hy : sls h ys ls) {j : Nat} {t : List Int} (hc : ls[j]? = some t) : ∃ q, ys[j]? = some q ∧ sAt h q t := by
  obtain ⟨ps, rfl, rfl, h3⟩ := hy
  rw [List.getElem?_map] at hc
  cases e : ps[j]? with
  | none => rw [e] at hc; cases hc
  | some p =>
    rw [e] at hc
    cases hc
    exact ⟨p.1, by rw [List.getElem?_map, e]; rfl, h3 p (List.mem_of_getElem? e)⟩
theorem sls.app {h : zH} {ys : List Nat} {ls : List (List Int)} {q : Nat} {t : List Int} (hy : sls h ys ls) (hq : sAt h q t) : sls h (ys ++ [q]) (ls ++ [t]) := by
  obtain ⟨ps, rfl, rfl, h3⟩ := hy
  refine ⟨ps ++ [(q, t)], by simp, by simp, fun p hp => ?_⟩
  rcases List.mem_append.mp hp with e | e
  · exact h3 p e
  · rw [List.mem_singleton.mp e]; exact hq
theorem take_step {α : Type} {l : List α} {i : Int} {c : α} (h : l[i.toNat]? = some c) (hi : 0 ≤ i) : l.take i.toNat ++ [c] = l.take (i + 1).toNat := by
  obtain ⟨h1, h2⟩ := List.getElem?_eq_some_iff.mp h
  rw [show (i + 1).toNat = i.toNat + 1 by omega, List.take_succ_eq_append_getElem h1, h2]
/-- what a key is worth -/
def scl (t m : Int) : List zCh → Int
  | [] => 0
  | c :: r => insc t m (pcl c.2.2.1) * 2 + (if pcl c.2.2.1 = pcl t then (if cmn c.2.2.2.1 = m then 2 else 1) + (if r.length = 0 then 2 else 0) else 0) + scl t m r
theorem drop_step {α : Type} {l : List α} {i : Int} {c : α} (h : l[i.toNat]? = some c) (hi : 0 ≤ i) : l.drop i.toNat = c :: l.drop (i + 1).toNat := by
  obtain ⟨h1, h2⟩ := List.getElem?_eq_some_iff.mp h
  rw [List.drop_eq_getElem_cons h1, h2, show (i + 1).toNat = i.toNat + 1 by omega]
theorem scl_step {t m : Int} {l : List zCh} {i : Int} {c : zCh} (h : l[i.toNat]? = some c) (hi : 0 ≤ i) : scl t m (l.drop i.toNat) = insc t m (pcl c.2.2.1) * 2 + (if pcl c.2.2.1 = pcl t then (if cmn c.2.2.2.1 = m then 2 else 1) + (if i = (l.length : Nat) - 1 then 2 else 0) else 0) + scl t m (l.drop (i + 1).toNat) := by
  have h1 := (List.getElem?_eq_some_iff.mp h).1
  rw [drop_step h hi, scl]
  have e : ((l.drop (i + 1).toNat).length = 0) ↔ (i = (l.length : Nat) - 1) := by simp; omega
  simp only [e]
theorem scl_r (t m : Int) : ∀ l : List zCh, 0 ≤ scl t m l ∧ scl t m l ≤ 6 * (l.length : Nat) := by
  intro l
  induction l with
  | nil => simp [scl]
  | cons c r ih =>
    have := insc_r t m (pcl c.2.2.1)
    simp only [scl, List.length_cons]
    (repeat' split) <;> omega
def sgk (k : Int) : Int := if k % 2 = 1 then (k + 1) / 2 else -(k / 2)
def lgi (cs : List zCh) (md ad : Int) : Nat → Int → Int × Int → Int × Int
  | 0, _, b => b
  | f + 1, k, b => lgi cs md ad f (k + 1) (if scl b.1 b.2 cs < scl (sgk k + ad) md cs then (sgk k + ad, md) else b)
def lik (cs : List zCh) : Int × Int := lgi cs 1 3 13 0 (lgi cs 0 0 13 0 (0, 0))
def bhd (a b : zCh) : Int := if b.1 < a.1 ∨ (a.1 = b.1 ∧ b.2.1 < a.2.1) then 1 else 0
/-- how many chords, from the first on, aren't behind -/
def ipl (c : zCh) : List zCh → Int
  | [] => 0
  | a :: r => if bhd a c = 1 then 0 else 1 + ipl c r
theorem ipl_r (c : zCh) : ∀ l : List zCh, 0 ≤ ipl c l ∧ ipl c l ≤ (l.length : Nat) := by
  intro l
  induction l with
  | nil => simp [ipl]
  | cons a r ih =>
    simp only [ipl, List.length_cons]
    split <;> omega
set_option maxHeartbeats 4000000 in
theorem ct_S_init {l : Launch} (hl : l.stackTraces = false) {Γ : zCx} {h : zH} {s kq : Nat} (hs : h s = some (true, .inr (1, [.null, .null, .null]))) : zMet l yX2_init (ws_ yX2_init cX2_init 2 none) ({ frames := 4, cells := 2, slots := 6, locals := 72 }) Γ h [.ref s, .ref kq] (zrt (fun w h' => w = none ∧ ∃ lq cq, h' s = some (true, .inr (1, [.ref lq, .ref cq, .ref kq])) ∧ lAt Γ h' lq (Γ.2.2.2 0) [] 0 ∧ lAt Γ h' cq (Γ.2.2.2 0) [] 0 ∧ h lq = none ∧ h cq = none ∧ lq ≠ cq ∧ zkeep h h' [s])) 2 6 := by
  refine zMet.of (cc := cX2_init) hl (plainFor_of_name (by decide +kernel)) (Nat.le_of_ble_eq_true rfl) ?_
  intro X hXl hXΓ hXp C hnm hnL
  have C : zC X cX2_init RX2 none 4 72 [] := C
  have hnL : X.2.1.2.2.2.2 = 2 := hnL
  subst hXl hXΓ
  show Z X h 2 6 [(0, .ref s), (1, .ref kq)] 0 []
  refine z_aload_n (pc := 0) (j := 0) C dX2_init_0 rfl rfl ?_
  refine z_objInit (pc := 1) C q138 q113 q114 (by decide) (by decide) dX2_init_1 ?_
  refine z_aload_n (pc := 4) (j := 0) C dX2_init_4 rfl rfl ?_
  refine z_new (pc := 5) (ci := 10) (kc' := 1) (ks' := 3) (fs := [.int (iI 0), .null, .int (iI 0)]) C in_J2 tyJ2 tyJ2_ok rfl q139 q140 q68 df_J2 (by omega) (by omega) dX2_init_5 (fun a1 fa1 => ?_)
  refine Z.nm (fun h2 eh2 => ?_)
  have na1 : h a1 = none := fa1
  have kh2 : zkeep h h2 [s] := by rw [eh2]; exact zkeep.born zkeep.rf fa1
  have fh2_0 : h2 a1 = some (true, .inr (10, [.int (iI 0), .null, .int (iI 0)])) := zse eh2
  have fh2_1 : h2 s = some (true, .inr (1, [.null, .null, .null])) := zsn eh2 hs (zneF hs fa1)
  refine z_dup (pc := 8) C dX2_init_8 rfl ?_
  refine z_callI (pc := 9) (n := 0) (kc' := 1) (ks' := 3) C (ct_L_init C.t fh2_0) q143 q68 q141 q142 rfl (by decide +kernel) ⟨by decide, by decide⟩ rfl rfl (Nat.le_of_ble_eq_true rfl) dX2_init_9 (by omega) (by omega) (zrk fun w h3 hp => ?_) zrx
  obtain ⟨rfl, hl4, k5⟩ := hp
  have kh3 : zkeep h h3 [s] := zkeep.loc kh2 k5 (zall_cons (Or.inl (Or.symm (Or.inr na1))) zall_nil)
  have fh3_1 : h3 s = some (true, .inr (1, [.null, .null, .null])) := k5.n fh2_1 (List.not_mem_cons_of_ne_of_not_mem (zneF hs fa1) List.not_mem_nil)
  have hx_6 := hl4
  obtain ⟨m_6, f_6, la_6, le_6, lz_6, lt_6, ln_6, lc_6, lx_6, lq_6⟩ := hx_6
  have le_6 : h3 (X.Γ.2.2.2 0) = some (false, .inl (.object "java/lang/Object", 0, f_6)) := le_6
  show Z X h3 1 3 [(0, .ref s), (1, .ref kq)] 12 [.ref a1, .ref s]
  refine z_putfieldF (pc := 12) (fs' := [.ref a1, .null, .null]) C hnm in_X2 tyX2 tyX2_ok nmX2 rfl 0 (by decide) q165 (fun _ z => z) rfl rfl rfl rfl (Nat.le_of_ble_eq_true rfl) fh3_1 rfl dX2_init_12 ?_
  refine Z.nm (fun h7 eh7 => ?_)
  have kh7 : zkeep h h7 [s] := by rw [eh7]; exact zkeep.up kh3 (Or.inl (by simp)) fh3_1
  have fh7_0 : h7 s = some (true, .inr (1, [.ref a1, .null, .null])) := zse eh7
  have fh7_1 : h7 a1 = some (true, .inr (10, [.int (iI m_6), .ref (X.Γ.2.2.2 0), .int (iI ((([] : List Nat).length : Nat) : Int))])) := zsn eh7 la_6 (Ne.symm (zneF hs fa1))
  have fh7_2 : h7 (X.Γ.2.2.2 0) = some (false, .inl ((.object "java/lang/Object"), 0, f_6)) := zsn eh7 le_6 (zneW le_6 fh3_1)
  have sh7 : zkeep h3 h7 [s] := zkeep.one eh7 fh3_1
  have ph7_1 : ∀ q ∈ ([] : List Nat), zel h7 q := zels.keep sh7 lq_6
  refine z_aload_n (pc := 15) (j := 0) C dX2_init_15 rfl rfl ?_
  refine z_new (pc := 16) (ci := 10) (kc' := 0) (ks' := 0) (fs := [.int (iI 0), .null, .int (iI 0)]) C in_J2 tyJ2 tyJ2_ok rfl q139 q140 q68 df_J2 (by omega) (by omega) dX2_init_16 (fun a8 fa8 => ?_)
  refine Z.nm (fun h9 eh9 => ?_)
  have na8 : h a8 = none := kh7.none0 fa8 (List.not_mem_cons_of_ne_of_not_mem (Ne.symm (zneF fh7_0 fa8)) List.not_mem_nil)
  have kh9 : zkeep h h9 [s] := by rw [eh9]; exact zkeep.born kh7 fa8
  have fh9_0 : h9 a8 = some (true, .inr (10, [.int (iI 0), .null, .int (iI 0)])) := zse eh9
  have fh9_1 : h9 a1 = some (true, .inr (10, [.int (iI m_6), .ref (X.Γ.2.2.2 0), .int (iI ((([] : List Nat).length : Nat) : Int))])) := zsn eh9 fh7_1 (zneF fh7_1 fa8)
  have fh9_2 : h9 (X.Γ.2.2.2 0) = some (false, .inl ((.object "java/lang/Object"), 0, f_6)) := zsn eh9 fh7_2 (zneF fh7_2 fa8)
  have fh9_3 : h9 s = some (true, .inr (1, [.ref a1, .null, .null])) := zsn eh9 fh7_0 (zneF fh7_0 fa8)
  have sh9 : zkeep h7 h9 [] := zkeep.one0 eh9 fa8
  have ph9_1 : ∀ q ∈ ([] : List Nat), zel h9 q := zels.keep sh9 ph7_1
  have hne0 : a1 ≠ a8 := zneF fh7_1 fa8
  refine z_dup (pc := 19) C dX2_init_19 rfl ?_
  refine z_callI (pc := 20) (n := 0) (kc' := 0) (ks' := 0) C (ct_L_init C.t fh9_0) q143 q68 q141 q142 rfl (by decide +kernel) ⟨by decide, by decide⟩ rfl rfl (Nat.le_of_ble_eq_true rfl) dX2_init_20 (by omega) (by omega) (zrk fun w h10 hp => ?_) zrx
  obtain ⟨rfl, hl11, k12⟩ := hp
  have kh10 : zkeep h h10 [s] := zkeep.loc kh9 k12 (zall_cons (Or.inl (Or.symm (Or.inr na8))) zall_nil)
  have fh10_1 : h10 a1 = some (true, .inr (10, [.int (iI m_6), .ref (X.Γ.2.2.2 0), .int (iI ((([] : List Nat).length : Nat) : Int))])) := k12.n fh9_1 (List.not_mem_cons_of_ne_of_not_mem (zneF fh7_1 fa8) List.not_mem_nil)
  have fh10_2 : h10 (X.Γ.2.2.2 0) = some (false, .inl ((.object "java/lang/Object"), 0, f_6)) := k12.f fh9_2
  have fh10_3 : h10 s = some (true, .inr (1, [.ref a1, .null, .null])) := k12.n fh9_3 (List.not_mem_cons_of_ne_of_not_mem (zneF fh7_0 fa8) List.not_mem_nil)
  have ph10_1 : ∀ q ∈ ([] : List Nat), zel h10 q := zels.keep k12 ph9_1
  have hx_13 := hl11
  obtain ⟨m_13, f_13, la_13, le_13, lz_13, lt_13, ln_13, lc_13, lx_13, lq_13⟩ := hx_13
  have le_13 : h10 (X.Γ.2.2.2 0) = some (false, .inl (.object "java/lang/Object", 0, f_13)) := le_13
  show Z X h10 0 0 [(0, .ref s), (1, .ref kq)] 23 [.ref a8, .ref s]
  refine z_putfieldF (pc := 23) (fs' := [.ref a1, .ref a8, .null]) C hnm in_X2 tyX2 tyX2_ok nmX2 rfl 1 (by decide) q169 (fun _ z => z) rfl rfl rfl rfl (Nat.le_of_ble_eq_true rfl) fh10_3 rfl dX2_init_23 ?_
  refine Z.nm (fun h14 eh14 => ?_)
  have kh14 : zkeep h h14 [s] := by rw [eh14]; exact zkeep.up kh10 (Or.inl (by simp)) fh10_3
  have fh14_0 : h14 s = some (true, .inr (1, [.ref a1, .ref a8, .null])) := zse eh14
  have fh14_1 : h14 a1 = some (true, .inr (10, [.int (iI m_6), .ref (X.Γ.2.2.2 0), .int (iI ((([] : List Nat).length : Nat) : Int))])) := zsn eh14 fh10_1 (Ne.symm (zneF hs fa1))
  have fh14_2 : h14 (X.Γ.2.2.2 0) = some (false, .inl ((.object "java/lang/Object"), 0, f_13)) := zsn eh14 le_13 (zneW le_13 fh10_3)
  have fh14_3 : h14 a8 = some (true, .inr (10, [.int (iI m_13), .ref (X.Γ.2.2.2 0), .int (iI ((([] : List Nat).length : Nat) : Int))])) := zsn eh14 la_13 (Ne.symm (zneF fh7_0 fa8))
  have sh14 : zkeep h10 h14 [s] := zkeep.one eh14 fh10_3
  have ph14_1 : ∀ q ∈ ([] : List Nat), zel h14 q := zels.keep sh14 ph10_1
  have ph14_2 : ∀ q ∈ ([] : List Nat), zel h14 q := zels.keep sh14 lq_13
  refine z_aload_n (pc := 26) (j := 0) C dX2_init_26 rfl rfl ?_
  refine z_aload_n (pc := 27) (j := 1) C dX2_init_27 rfl rfl ?_
  refine z_putfield (pc := 28) (fs' := [.ref a1, .ref a8, .ref kq]) C in_X2 tyX2 tyX2_ok nmX2 rfl 2 (by decide) q173 (fun _ z => z) rfl rfl rfl (Nat.le_of_ble_eq_true rfl) fh14_0 rfl dX2_init_28 ?_
  refine Z.nm (fun h15 eh15 => ?_)
  have kh15 : zkeep h h15 [s] := by rw [eh15]; exact zkeep.up kh14 (Or.inl (by simp)) fh14_0
  have fh15_0 : h15 s = some (true, .inr (1, [.ref a1, .ref a8, .ref kq])) := zse eh15
  have fh15_1 : h15 a1 = some (true, .inr (10, [.int (iI m_6), .ref (X.Γ.2.2.2 0), .int (iI ((([] : List Nat).length : Nat) : Int))])) := zsn eh15 fh14_1 (Ne.symm (zneF hs fa1))
  have fh15_2 : h15 (X.Γ.2.2.2 0) = some (false, .inl ((.object "java/lang/Object"), 0, f_13)) := zsn eh15 fh14_2 (zneW fh14_2 fh14_0)
  have fh15_3 : h15 a8 = some (true, .inr (10, [.int (iI m_13), .ref (X.Γ.2.2.2 0), .int (iI ((([] : List Nat).length : Nat) : Int))])) := zsn eh15 fh14_3 (Ne.symm (zneF fh7_0 fa8))
  have sh15 : zkeep h14 h15 [s] := zkeep.one eh15 fh14_0
  have ph15_1 : ∀ q ∈ ([] : List Nat), zel h15 q := zels.keep sh15 ph14_1
  have ph15_2 : ∀ q ∈ ([] : List Nat), zel h15 q := zels.keep sh15 ph14_2
  exact z_return (pc := 31) C (by rw [hXp]; exact ⟨_, rfl, rfl, a1, a8, fh15_0, (lAt.mk (cap := 0) rfl rfl rfl fh15_1 fh15_2 lz_6 lt_6 ln_6 lc_6 (fun j q e => by simp at e) ph15_1), (lAt.mk (cap := 0) rfl rfl rfl fh15_3 fh15_2 lz_13 lt_13 ln_13 lc_13 (fun j q e => by simp at e) ph15_2), na1, na8, hne0, kh15⟩) dX2_init_31
set_option maxHeartbeats 4000000 in
theorem ct_S_bhd {l : Launch} (hl : l.stackTraces = false) {Γ : zCx} {h : zH} {qa : Nat} {a : zCh} (hqa : cAt h qa a) (rqa : crg a) {qb : Nat} {b : zCh} (hqb : cAt h qb b) (rqb : crg b)  : zMet l yX2_isBehind (ws_ yX2_isBehind cX2_isBehind 2 (some .boolean)) ({ frames := 0, cells := 0, slots := 0, locals := 0 }) Γ h [.ref qa, .ref qb] (zpure h (some (.int (iI (bhd a b))))) 0 0 := by
  refine zMet.of (cc := cX2_isBehind) hl (plainFor_of_name (by decide +kernel)) (Nat.le_of_ble_eq_true rfl) ?_
  intro X hXl hXΓ hXp C hnm hnL
  have C : zC X cX2_isBehind RX2 (some .boolean) 0 0 [] := C
  have hnL : X.2.1.2.2.2.2 = 2 := hnL
  subst hXl hXΓ
  show Z X h 0 0 [(0, .ref qa), (1, .ref qb)] 0 []
  have g1 := rqa.1
  have g2 := rqa.2.1
  have g3 := rqb.1
  have g4 := rqb.2.1
  refine z_aload_n (pc := 0) (j := 0) C dX2_isBehind_0 rfl rfl ?_
  refine z_getfieldN (pc := 1) (v := .int (iI a.1)) C in_X7 rfl 0 (by decide) q591 (fun _ z => z) hqa rfl dX2_isBehind_1 ?_
  refine z_aload_n (pc := 4) (j := 1) C dX2_isBehind_4 rfl rfl ?_
  refine z_getfieldN (pc := 5) (v := .int (iI b.1)) C in_X7 rfl 0 (by decide) q591 (fun _ z => z) hqb rfl dX2_isBehind_5 ?_
  refine z_icmp_gt (pc := 8) (tgt := 33) C dX2_isBehind_8 (by decide) (by omega) (by omega) (fun c8 => ?_) (fun c8 => ?_)
  · refine z_iconst (pc := 33) C dX2_isBehind_33 ?_
    refine z_goto (pc := 34) (tgt := 38) C dX2_isBehind_34 (by decide) ?_
    exact z_zreturn (pc := 38) C (by decide) (by rw [hXp]; exact zpure_i (by unfold bhd; split <;> omega) rfl) dX2_isBehind_38
  · refine z_aload_n (pc := 11) (j := 0) C dX2_isBehind_11 rfl rfl ?_
    refine z_getfieldN (pc := 12) (v := .int (iI a.1)) C in_X7 rfl 0 (by decide) q591 (fun _ z => z) hqa rfl dX2_isBehind_12 ?_
    refine z_aload_n (pc := 15) (j := 1) C dX2_isBehind_15 rfl rfl ?_
    refine z_getfieldN (pc := 16) (v := .int (iI b.1)) C in_X7 rfl 0 (by decide) q591 (fun _ z => z) hqb rfl dX2_isBehind_16 ?_
    refine z_icmp_ne (pc := 19) (tgt := 37) C dX2_isBehind_19 (by decide) (by omega) (by omega) (fun c19 => ?_) (fun c19 => ?_)
    · refine z_iconst (pc := 37) C dX2_isBehind_37 ?_
      exact z_zreturn (pc := 38) C (by decide) (by rw [hXp]; exact zpure_i (by unfold bhd; split <;> omega) rfl) dX2_isBehind_38
    · refine z_aload_n (pc := 22) (j := 0) C dX2_isBehind_22 rfl rfl ?_
      refine z_getfieldN (pc := 23) (v := .int (iI a.2.1)) C in_X7 rfl 1 (by decide) q595 (fun _ z => z) hqa rfl dX2_isBehind_23 ?_
      refine z_aload_n (pc := 26) (j := 1) C dX2_isBehind_26 rfl rfl ?_
      refine z_getfieldN (pc := 27) (v := .int (iI b.2.1)) C in_X7 rfl 1 (by decide) q595 (fun _ z => z) hqb rfl dX2_isBehind_27 ?_
      refine z_icmp_le (pc := 30) (tgt := 37) C dX2_isBehind_30 (by decide) (by omega) (by omega) (fun c30 => ?_) (fun c30 => ?_)
      · refine z_iconst (pc := 37) C dX2_isBehind_37 ?_
        exact z_zreturn (pc := 38) C (by decide) (by rw [hXp]; exact zpure_i (by unfold bhd; split <;> omega) rfl) dX2_isBehind_38
      · refine z_iconst (pc := 33) C dX2_isBehind_33 ?_
        refine z_goto (pc := 34) (tgt := 38) C dX2_isBehind_34 (by decide) ?_
        exact z_zreturn (pc := 38) C (by decide) (by rw [hXp]; exact zpure_i (by unfold bhd; split <;> omega) rfl) dX2_isBehind_38
set_option maxHeartbeats 4000000 in
theorem ct_S_score {l : Launch} (hl : l.stackTraces = false) {Γ : zCx} {h : zH} {s lq cq kq e cap : Nat} {fa fb fc : Bool} {f : Nat → Value} {mm : Int} {cs : List zCh} (hs : h s = some (fa, .inr (1, [.ref lq, .ref cq, .ref kq]))) (hcq : h cq = some (fb, .inr (10, [.int (iI mm), .ref e, .int (iI ((cs.length : Nat) : Int))]))) (he : h e = some (fc, .inl (.object "java/lang/Object", cap, f))) (hcl : clA h f cs) (hn : cs.length ≤ cap ∧ cap ≤ 100000) (hrg : ∀ c ∈ cs, crg c) (hm100 : cs.length ≤ 1000) {k : Nat} {t m : Int} (hk : h k = some (false, .inr (2, [.int (iI t), .int (iI m)]))) (ht : -500 ≤ t ∧ t ≤ 500) (hm : m = 0 ∨ m = 1)  : zMet l yX2_score (ws_ yX2_score cX2_score 7 (some .int)) ({ frames := 3, cells := 0, slots := 0, locals := 65 }) Γ h [.ref s, .ref k] (zpure h (some (.int (iI (scl t m cs))))) 0 0 := by
  refine zMet.of (cc := cX2_score) hl (plainFor_of_name (by decide +kernel)) (Nat.le_of_ble_eq_true rfl) ?_
  intro X hXl hXΓ hXp C hnm hnL
  have C : zC X cX2_score RX2 (some .int) 3 65 [] := C
  have hnL : X.2.1.2.2.2.2 = 7 := hnL
  subst hXl hXΓ
  show Z X h 0 0 [(0, .ref s), (1, .ref k)] 0 []
  have hpt := pcl_r t
  refine z_iconst (pc := 0) C dX2_score_0 ?_
  refine z_istore_n (pc := 1) (L' := [(2, .int (iI 0)), (0, .ref s), (1, .ref k)]) C dX2_score_1 rfl (by rw [hnL]; decide) rfl ?_
  refine z_aload_n (pc := 2) (j := 2) C dX2_score_2 rfl rfl ?_
  refine z_getfieldN (pc := 3) (v := .int (iI t)) C in_X3 rfl 0 (by decide) q124 (fun _ z => z) hk rfl dX2_score_3 ?_
  refine z_callSN (pc := 6) (n := 1) (kc' := 0) (ks' := 0) C (ct_pcl C.t (p := t) (by omega)) q898 q896 q63 q897 (by decide +kernel) ⟨by decide, by decide⟩ rfl rfl (Nat.le_of_ble_eq_true rfl) dX2_score_6 (by omega) (by omega) (zpk (st' := [.int (iI (pcl t))]) rfl ?_) zrx
  refine z_istore_n (pc := 9) (L' := [(3, .int (iI (pcl t))), (2, .int (iI 0)), (0, .ref s), (1, .ref k)]) C dX2_score_9 rfl (by rw [hnL]; decide) rfl ?_
  refine z_iconst (pc := 10) C dX2_score_10 ?_
  refine z_istore (pc := 11) (L' := [(4, .int (iI 0)), (3, .int (iI (pcl t))), (2, .int (iI 0)), (0, .ref s), (1, .ref k)]) C dX2_score_11 (by rw [hnL]; decide) rfl ?_
  have loop13 : ∀ (n13 : Nat) (sm : Int) (i : Int), (0 ≤ i ∧ i ≤ (cs.length : Nat)) → (sm + scl t m (cs.drop i.toNat) = scl t m cs) → (0 ≤ sm ∧ sm ≤ 6 * i) → (((cs.length : Nat) - i).toNat) = n13 → Z X h 0 0 [(4, .int (iI i)), (3, .int (iI (pcl t))), (2, .int (iI sm)), (1, .ref k), (0, .ref s)] 13 [] := by
    intro n13
    induction n13 using Nat.strongRecOn with
    | ind n13 ih13 =>
    intro sm i hi hd hsm hn13
    refine z_iload (pc := 13) (j := 0) C dX2_score_13 rfl ?_
    refine z_aload_n (pc := 15) (j := 4) C dX2_score_15 rfl rfl ?_
    refine z_getfield (pc := 16) (v := .ref cq) C in_X2 rfl 1 (by decide) q169 (fun _ z => z) hs rfl dX2_score_16 ?_
    refine z_callV (pc := 19) (n := 0) (kc' := 0) (ks' := 0) C (ct_L_size C.t hcq) (lw_V q902 q367 q368 q68 q369) (by decide +kernel) ⟨by decide, by decide⟩ hcq rfl rfl rfl (Nat.le_of_ble_eq_true rfl) dX2_score_19 (by omega) (by omega) (zpk (st' := [.int (iI ((cs.length : Nat) : Int)), .int (iI i)]) rfl ?_) zrx
    refine z_icmp_ge (pc := 22) (tgt := 120) C dX2_score_22 (by decide) (by omega) (by omega) (fun c22 => ?_) (fun c22 => ?_)
    · refine z_iload_n (pc := 120) (j := 2) C dX2_score_120 rfl rfl ?_
      exact z_ireturn (pc := 121) C (by rw [hXp]; exact zpure_i (by rw [List.drop_of_length_le (by omega)] at hd; simp [scl] at hd; omega) rfl) dX2_score_121
    · refine z_aload_n (pc := 25) (j := 4) C dX2_score_25 rfl rfl ?_
      refine z_getfield (pc := 26) (v := .ref cq) C in_X2 rfl 1 (by decide) q169 (fun _ z => z) hs rfl dX2_score_26 ?_
      refine z_iload (pc := 29) (j := 0) C dX2_score_29 rfl ?_
      obtain ⟨c_1, hc_1⟩ : ∃ x, cs[(i).toNat]? = some x := ⟨_, List.getElem?_eq_getElem (by omega)⟩
      obtain ⟨q_1, hq_1, ha_1⟩ := hcl _ _ hc_1
      have hr_1 := hrg _ (List.mem_of_getElem? hc_1)
      have hr1_1 := hr_1.1
      have hr2_1 := hr_1.2.1
      have hr3_1 := hr_1.2.2.1
      have hr4_1 := hr_1.2.2.2.1
      have hr5_1 := hr_1.2.2.2.2
      refine z_callV (pc := 31) (n := 1) (kc' := 0) (ks' := 0) C (ct_L_get C.t hcq he (i := i) (by omega) (by omega) hq_1) (lw_V q903 q904 q905 q68 q906) (by decide +kernel) ⟨by decide, by decide⟩ hcq rfl rfl rfl (Nat.le_of_ble_eq_true rfl) dX2_score_31 (by omega) (by omega) (zpk (st' := [.ref q_1]) rfl ?_) zrx
      refine z_castS (pc := 34) C q915 rfl ha_1 dX2_score_34 ?_
      refine z_astore (pc := 37) (L' := [(5, .ref q_1), (4, .int (iI i)), (3, .int (iI (pcl t))), (2, .int (iI sm)), (1, .ref k), (0, .ref s)]) C dX2_score_37 (by rw [hnL]; decide) rfl ?_
      refine z_aload (pc := 39) (j := 0) C dX2_score_39 rfl ?_
      refine z_getfieldN (pc := 41) (v := .int (iI c_1.2.2.1)) C in_X7 rfl 2 (by decide) q599 (fun _ z => z) ha_1 rfl dX2_score_41 ?_
      refine z_callSN (pc := 44) (n := 1) (kc' := 0) (ks' := 0) C (ct_pcl C.t (p := c_1.2.2.1) (by omega)) q898 q896 q63 q897 (by decide +kernel) ⟨by decide, by decide⟩ rfl rfl (Nat.le_of_ble_eq_true rfl) dX2_score_44 (by omega) (by omega) (zpk (st' := [.int (iI (pcl c_1.2.2.1))]) rfl ?_) zrx
      have hpc := pcl_r c_1.2.2.1
      refine z_istore (pc := 47) (L' := [(6, .int (iI (pcl c_1.2.2.1))), (5, .ref q_1), (4, .int (iI i)), (3, .int (iI (pcl t))), (2, .int (iI sm)), (1, .ref k), (0, .ref s)]) C dX2_score_47 (by rw [hnL]; decide) rfl ?_
      refine z_iload_n (pc := 49) (j := 4) C dX2_score_49 rfl rfl ?_
      refine z_aload_n (pc := 50) (j := 5) C dX2_score_50 rfl rfl ?_
      refine z_iload (pc := 51) (j := 0) C dX2_score_51 rfl ?_
      refine z_callV (pc := 53) (n := 1) (kc' := 0) (ks' := 0) C (ct_K_insc C.t (t := t) (m := m) hk (by omega) (by omega) (p := pcl c_1.2.2.1) (by omega)) (lw_V q916 q917 q918 q65 q919) (by decide +kernel) ⟨by decide, by decide⟩ hk rfl rfl rfl (Nat.le_of_ble_eq_true rfl) dX2_score_53 (by omega) (by omega) (zpk (st' := [.int (iI (insc t m (pcl c_1.2.2.1))), .int (iI sm)]) rfl ?_) zrx
      have hin := insc_r t m (pcl c_1.2.2.1)
      refine z_if_eq (pc := 56) (tgt := 63) C dX2_score_56 (by decide) (by omega) (fun c56 => ?_) (fun c56 => ?_)
      · refine z_iconst (pc := 63) C dX2_score_63 ?_
        refine z_iadd (pc := 64) C dX2_score_64 ?_
        refine z_istore_n (pc := 65) (L' := [(2, .int (iI (sm + 0))), (6, .int (iI (pcl c_1.2.2.1))), (5, .ref q_1), (4, .int (iI i)), (3, .int (iI (pcl t))), (1, .ref k), (0, .ref s)]) C dX2_score_65 rfl (by rw [hnL]; decide) rfl ?_
        refine z_iload (pc := 66) (j := 1) C dX2_score_66 rfl ?_
        refine z_iload_n (pc := 68) (j := 4) C dX2_score_68 rfl rfl ?_
        refine z_icmp_ne (pc := 69) (tgt := 114) C dX2_score_69 (by decide) (by omega) (by omega) (fun c69 => ?_) (fun c69 => ?_)
        · refine z_iinc (pc := 114) (k := 3) (L' := [(4, .int (iI (i + 1))), (2, .int (iI (sm + 0))), (6, .int (iI (pcl c_1.2.2.1))), (5, .ref q_1), (3, .int (iI (pcl t))), (1, .ref k), (0, .ref s)]) C dX2_score_114 rfl (by rw [hnL]; decide) rfl ?_
          refine z_goto (pc := 117) (tgt := 13) C dX2_score_117 (by decide) ?_
          refine Z.weak (L' := [(4, .int (iI (i + 1))), (3, .int (iI (pcl t))), (2, .int (iI (sm + 0))), (1, .ref k), (0, .ref s)]) (kc' := 0) (ks' := 0) [0, 4, 1, 5, 6] rfl (by omega) (by omega) ?_
          exact ih13 _ (by omega) (sm + 0) (i + 1) (by omega) (by rw [scl_step hc_1 (by omega)] at hd; (repeat' split at hd) <;> omega) (by omega) rfl
        · refine z_iload_n (pc := 72) (j := 0) C dX2_score_72 rfl rfl ?_
          refine z_aload (pc := 73) (j := 2) C dX2_score_73 rfl ?_
          refine z_callV (pc := 75) (n := 0) (kc' := 0) (ks' := 0) C (ct_C_minor C.t ha_1 (by omega)) (lw_V q927 q928 q929 q89 q930) (by decide +kernel) ⟨by decide, by decide⟩ ha_1 rfl rfl rfl (Nat.le_of_ble_eq_true rfl) dX2_score_75 (by omega) (by omega) (zpk (st' := [.int (iI (cmn c_1.2.2.2.1)), .int (iI (sm + 0))]) rfl ?_) zrx
          have hcm : cmn c_1.2.2.2.1 = 0 ∨ cmn c_1.2.2.2.1 = 1 := by unfold cmn; split <;> omega
          refine z_aload_n (pc := 78) (j := 5) C dX2_score_78 rfl rfl ?_
          refine z_getfieldN (pc := 79) (v := .int (iI m)) C in_X3 rfl 1 (by decide) q127 (fun _ z => z) hk rfl dX2_score_79 ?_
          refine z_icmp_ne (pc := 82) (tgt := 89) C dX2_score_82 (by decide) (by omega) (by omega) (fun c82 => ?_) (fun c82 => ?_)
          · refine z_iconst (pc := 89) C dX2_score_89 ?_
            refine z_iadd (pc := 90) C dX2_score_90 ?_
            refine z_istore_n (pc := 91) (L' := [(2, .int (iI ((sm + 0) + 1))), (6, .int (iI (pcl c_1.2.2.1))), (5, .ref q_1), (4, .int (iI i)), (3, .int (iI (pcl t))), (1, .ref k), (0, .ref s)]) C dX2_score_91 rfl (by rw [hnL]; decide) rfl ?_
            refine z_iload_n (pc := 92) (j := 0) C dX2_score_92 rfl rfl ?_
            refine z_iload (pc := 93) (j := 3) C dX2_score_93 rfl ?_
            refine z_aload_n (pc := 95) (j := 6) C dX2_score_95 rfl rfl ?_
            refine z_getfield (pc := 96) (v := .ref cq) C in_X2 rfl 1 (by decide) q169 (fun _ z => z) hs rfl dX2_score_96 ?_
            refine z_callV (pc := 99) (n := 0) (kc' := 0) (ks' := 0) C (ct_L_size C.t hcq) (lw_V q902 q367 q368 q68 q369) (by decide +kernel) ⟨by decide, by decide⟩ hcq rfl rfl rfl (Nat.le_of_ble_eq_true rfl) dX2_score_99 (by omega) (by omega) (zpk (st' := [.int (iI ((cs.length : Nat) : Int)), .int (iI i), .int (iI ((sm + 0) + 1))]) rfl ?_) zrx
            refine z_iconst (pc := 102) C dX2_score_102 ?_
            refine z_isub (pc := 103) C dX2_score_103 ?_
            refine z_icmp_ne (pc := 104) (tgt := 111) C dX2_score_104 (by decide) (by omega) (by omega) (fun c104 => ?_) (fun c104 => ?_)
            · refine z_iconst (pc := 111) C dX2_score_111 ?_
              refine z_iadd (pc := 112) C dX2_score_112 ?_
              refine z_istore_n (pc := 113) (L' := [(2, .int (iI (((sm + 0) + 1) + 0))), (6, .int (iI (pcl c_1.2.2.1))), (5, .ref q_1), (4, .int (iI i)), (3, .int (iI (pcl t))), (1, .ref k), (0, .ref s)]) C dX2_score_113 rfl (by rw [hnL]; decide) rfl ?_
              refine z_iinc (pc := 114) (k := 3) (L' := [(4, .int (iI (i + 1))), (2, .int (iI (((sm + 0) + 1) + 0))), (6, .int (iI (pcl c_1.2.2.1))), (5, .ref q_1), (3, .int (iI (pcl t))), (1, .ref k), (0, .ref s)]) C dX2_score_114 rfl (by rw [hnL]; decide) rfl ?_
              refine z_goto (pc := 117) (tgt := 13) C dX2_score_117 (by decide) ?_
              refine Z.weak (L' := [(4, .int (iI (i + 1))), (3, .int (iI (pcl t))), (2, .int (iI (((sm + 0) + 1) + 0))), (1, .ref k), (0, .ref s)]) (kc' := 0) (ks' := 0) [0, 4, 1, 5, 6] rfl (by omega) (by omega) ?_
              exact ih13 _ (by omega) (((sm + 0) + 1) + 0) (i + 1) (by omega) (by rw [scl_step hc_1 (by omega)] at hd; (repeat' split at hd) <;> omega) (by omega) rfl
            · refine z_iconst (pc := 107) C dX2_score_107 ?_
              refine z_goto (pc := 108) (tgt := 112) C dX2_score_108 (by decide) ?_
              refine z_iadd (pc := 112) C dX2_score_112 ?_
              refine z_istore_n (pc := 113) (L' := [(2, .int (iI (((sm + 0) + 1) + 2))), (6, .int (iI (pcl c_1.2.2.1))), (5, .ref q_1), (4, .int (iI i)), (3, .int (iI (pcl t))), (1, .ref k), (0, .ref s)]) C dX2_score_113 rfl (by rw [hnL]; decide) rfl ?_
              refine z_iinc (pc := 114) (k := 3) (L' := [(4, .int (iI (i + 1))), (2, .int (iI (((sm + 0) + 1) + 2))), (6, .int (iI (pcl c_1.2.2.1))), (5, .ref q_1), (3, .int (iI (pcl t))), (1, .ref k), (0, .ref s)]) C dX2_score_114 rfl (by rw [hnL]; decide) rfl ?_
              refine z_goto (pc := 117) (tgt := 13) C dX2_score_117 (by decide) ?_
              refine Z.weak (L' := [(4, .int (iI (i + 1))), (3, .int (iI (pcl t))), (2, .int (iI (((sm + 0) + 1) + 2))), (1, .ref k), (0, .ref s)]) (kc' := 0) (ks' := 0) [0, 4, 1, 5, 6] rfl (by omega) (by omega) ?_
              exact ih13 _ (by omega) (((sm + 0) + 1) + 2) (i + 1) (by omega) (by rw [scl_step hc_1 (by omega)] at hd; (repeat' split at hd) <;> omega) (by omega) rfl
          · refine z_iconst (pc := 85) C dX2_score_85 ?_
            refine z_goto (pc := 86) (tgt := 90) C dX2_score_86 (by decide) ?_
            refine z_iadd (pc := 90) C dX2_score_90 ?_
            refine z_istore_n (pc := 91) (L' := [(2, .int (iI ((sm + 0) + 2))), (6, .int (iI (pcl c_1.2.2.1))), (5, .ref q_1), (4, .int (iI i)), (3, .int (iI (pcl t))), (1, .ref k), (0, .ref s)]) C dX2_score_91 rfl (by rw [hnL]; decide) rfl ?_
            refine z_iload_n (pc := 92) (j := 0) C dX2_score_92 rfl rfl ?_
            refine z_iload (pc := 93) (j := 3) C dX2_score_93 rfl ?_
            refine z_aload_n (pc := 95) (j := 6) C dX2_score_95 rfl rfl ?_
            refine z_getfield (pc := 96) (v := .ref cq) C in_X2 rfl 1 (by decide) q169 (fun _ z => z) hs rfl dX2_score_96 ?_
            refine z_callV (pc := 99) (n := 0) (kc' := 0) (ks' := 0) C (ct_L_size C.t hcq) (lw_V q902 q367 q368 q68 q369) (by decide +kernel) ⟨by decide, by decide⟩ hcq rfl rfl rfl (Nat.le_of_ble_eq_true rfl) dX2_score_99 (by omega) (by omega) (zpk (st' := [.int (iI ((cs.length : Nat) : Int)), .int (iI i), .int (iI ((sm + 0) + 2))]) rfl ?_) zrx
            refine z_iconst (pc := 102) C dX2_score_102 ?_
            refine z_isub (pc := 103) C dX2_score_103 ?_
            refine z_icmp_ne (pc := 104) (tgt := 111) C dX2_score_104 (by decide) (by omega) (by omega) (fun c104 => ?_) (fun c104 => ?_)
            · refine z_iconst (pc := 111) C dX2_score_111 ?_
              refine z_iadd (pc := 112) C dX2_score_112 ?_
              refine z_istore_n (pc := 113) (L' := [(2, .int (iI (((sm + 0) + 2) + 0))), (6, .int (iI (pcl c_1.2.2.1))), (5, .ref q_1), (4, .int (iI i)), (3, .int (iI (pcl t))), (1, .ref k), (0, .ref s)]) C dX2_score_113 rfl (by rw [hnL]; decide) rfl ?_
              refine z_iinc (pc := 114) (k := 3) (L' := [(4, .int (iI (i + 1))), (2, .int (iI (((sm + 0) + 2) + 0))), (6, .int (iI (pcl c_1.2.2.1))), (5, .ref q_1), (3, .int (iI (pcl t))), (1, .ref k), (0, .ref s)]) C dX2_score_114 rfl (by rw [hnL]; decide) rfl ?_
              refine z_goto (pc := 117) (tgt := 13) C dX2_score_117 (by decide) ?_
              refine Z.weak (L' := [(4, .int (iI (i + 1))), (3, .int (iI (pcl t))), (2, .int (iI (((sm + 0) + 2) + 0))), (1, .ref k), (0, .ref s)]) (kc' := 0) (ks' := 0) [0, 4, 1, 5, 6] rfl (by omega) (by omega) ?_
              exact ih13 _ (by omega) (((sm + 0) + 2) + 0) (i + 1) (by omega) (by rw [scl_step hc_1 (by omega)] at hd; (repeat' split at hd) <;> omega) (by omega) rfl
            · refine z_iconst (pc := 107) C dX2_score_107 ?_
              refine z_goto (pc := 108) (tgt := 112) C dX2_score_108 (by decide) ?_
              refine z_iadd (pc := 112) C dX2_score_112 ?_
              refine z_istore_n (pc := 113) (L' := [(2, .int (iI (((sm + 0) + 2) + 2))), (6, .int (iI (pcl c_1.2.2.1))), (5, .ref q_1), (4, .int (iI i)), (3, .int (iI (pcl t))), (1, .ref k), (0, .ref s)]) C dX2_score_113 rfl (by rw [hnL]; decide) rfl ?_
              refine z_iinc (pc := 114) (k := 3) (L' := [(4, .int (iI (i + 1))), (2, .int (iI (((sm + 0) + 2) + 2))), (6, .int (iI (pcl c_1.2.2.1))), (5, .ref q_1), (3, .int (iI (pcl t))), (1, .ref k), (0, .ref s)]) C dX2_score_114 rfl (by rw [hnL]; decide) rfl ?_
              refine z_goto (pc := 117) (tgt := 13) C dX2_score_117 (by decide) ?_
              refine Z.weak (L' := [(4, .int (iI (i + 1))), (3, .int (iI (pcl t))), (2, .int (iI (((sm + 0) + 2) + 2))), (1, .ref k), (0, .ref s)]) (kc' := 0) (ks' := 0) [0, 4, 1, 5, 6] rfl (by omega) (by omega) ?_
              exact ih13 _ (by omega) (((sm + 0) + 2) + 2) (i + 1) (by omega) (by rw [scl_step hc_1 (by omega)] at hd; (repeat' split at hd) <;> omega) (by omega) rfl
      · refine z_iconst (pc := 59) C dX2_score_59 ?_
        refine z_goto (pc := 60) (tgt := 64) C dX2_score_60 (by decide) ?_
        refine z_iadd (pc := 64) C dX2_score_64 ?_
        refine z_istore_n (pc := 65) (L' := [(2, .int (iI (sm + 2))), (6, .int (iI (pcl c_1.2.2.1))), (5, .ref q_1), (4, .int (iI i)), (3, .int (iI (pcl t))), (1, .ref k), (0, .ref s)]) C dX2_score_65 rfl (by rw [hnL]; decide) rfl ?_
        refine z_iload (pc := 66) (j := 1) C dX2_score_66 rfl ?_
        refine z_iload_n (pc := 68) (j := 4) C dX2_score_68 rfl rfl ?_
        refine z_icmp_ne (pc := 69) (tgt := 114) C dX2_score_69 (by decide) (by omega) (by omega) (fun c69 => ?_) (fun c69 => ?_)
        · refine z_iinc (pc := 114) (k := 3) (L' := [(4, .int (iI (i + 1))), (2, .int (iI (sm + 2))), (6, .int (iI (pcl c_1.2.2.1))), (5, .ref q_1), (3, .int (iI (pcl t))), (1, .ref k), (0, .ref s)]) C dX2_score_114 rfl (by rw [hnL]; decide) rfl ?_
          refine z_goto (pc := 117) (tgt := 13) C dX2_score_117 (by decide) ?_
          refine Z.weak (L' := [(4, .int (iI (i + 1))), (3, .int (iI (pcl t))), (2, .int (iI (sm + 2))), (1, .ref k), (0, .ref s)]) (kc' := 0) (ks' := 0) [0, 4, 1, 5, 6] rfl (by omega) (by omega) ?_
          exact ih13 _ (by omega) (sm + 2) (i + 1) (by omega) (by rw [scl_step hc_1 (by omega)] at hd; (repeat' split at hd) <;> omega) (by omega) rfl
        · refine z_iload_n (pc := 72) (j := 0) C dX2_score_72 rfl rfl ?_
          refine z_aload (pc := 73) (j := 2) C dX2_score_73 rfl ?_
          refine z_callV (pc := 75) (n := 0) (kc' := 0) (ks' := 0) C (ct_C_minor C.t ha_1 (by omega)) (lw_V q927 q928 q929 q89 q930) (by decide +kernel) ⟨by decide, by decide⟩ ha_1 rfl rfl rfl (Nat.le_of_ble_eq_true rfl) dX2_score_75 (by omega) (by omega) (zpk (st' := [.int (iI (cmn c_1.2.2.2.1)), .int (iI (sm + 2))]) rfl ?_) zrx
          have hcm : cmn c_1.2.2.2.1 = 0 ∨ cmn c_1.2.2.2.1 = 1 := by unfold cmn; split <;> omega
          refine z_aload_n (pc := 78) (j := 5) C dX2_score_78 rfl rfl ?_
          refine z_getfieldN (pc := 79) (v := .int (iI m)) C in_X3 rfl 1 (by decide) q127 (fun _ z => z) hk rfl dX2_score_79 ?_
          refine z_icmp_ne (pc := 82) (tgt := 89) C dX2_score_82 (by decide) (by omega) (by omega) (fun c82 => ?_) (fun c82 => ?_)
          · refine z_iconst (pc := 89) C dX2_score_89 ?_
            refine z_iadd (pc := 90) C dX2_score_90 ?_
            refine z_istore_n (pc := 91) (L' := [(2, .int (iI ((sm + 2) + 1))), (6, .int (iI (pcl c_1.2.2.1))), (5, .ref q_1), (4, .int (iI i)), (3, .int (iI (pcl t))), (1, .ref k), (0, .ref s)]) C dX2_score_91 rfl (by rw [hnL]; decide) rfl ?_
            refine z_iload_n (pc := 92) (j := 0) C dX2_score_92 rfl rfl ?_
            refine z_iload (pc := 93) (j := 3) C dX2_score_93 rfl ?_
            refine z_aload_n (pc := 95) (j := 6) C dX2_score_95 rfl rfl ?_
            refine z_getfield (pc := 96) (v := .ref cq) C in_X2 rfl 1 (by decide) q169 (fun _ z => z) hs rfl dX2_score_96 ?_
            refine z_callV (pc := 99) (n := 0) (kc' := 0) (ks' := 0) C (ct_L_size C.t hcq) (lw_V q902 q367 q368 q68 q369) (by decide +kernel) ⟨by decide, by decide⟩ hcq rfl rfl rfl (Nat.le_of_ble_eq_true rfl) dX2_score_99 (by omega) (by omega) (zpk (st' := [.int (iI ((cs.length : Nat) : Int)), .int (iI i), .int (iI ((sm + 2) + 1))]) rfl ?_) zrx
            refine z_iconst (pc := 102) C dX2_score_102 ?_
            refine z_isub (pc := 103) C dX2_score_103 ?_
            refine z_icmp_ne (pc := 104) (tgt := 111) C dX2_score_104 (by decide) (by omega) (by omega) (fun c104 => ?_) (fun c104 => ?_)
            · refine z_iconst (pc := 111) C dX2_score_111 ?_
              refine z_iadd (pc := 112) C dX2_score_112 ?_
              refine z_istore_n (pc := 113) (L' := [(2, .int (iI (((sm + 2) + 1) + 0))), (6, .int (iI (pcl c_1.2.2.1))), (5, .ref q_1), (4, .int (iI i)), (3, .int (iI (pcl t))), (1, .ref k), (0, .ref s)]) C dX2_score_113 rfl (by rw [hnL]; decide) rfl ?_
              refine z_iinc (pc := 114) (k := 3) (L' := [(4, .int (iI (i + 1))), (2, .int (iI (((sm + 2) + 1) + 0))), (6, .int (iI (pcl c_1.2.2.1))), (5, .ref q_1), (3, .int (iI (pcl t))), (1, .ref k), (0, .ref s)]) C dX2_score_114 rfl (by rw [hnL]; decide) rfl ?_
              refine z_goto (pc := 117) (tgt := 13) C dX2_score_117 (by decide) ?_
              refine Z.weak (L' := [(4, .int (iI (i + 1))), (3, .int (iI (pcl t))), (2, .int (iI (((sm + 2) + 1) + 0))), (1, .ref k), (0, .ref s)]) (kc' := 0) (ks' := 0) [0, 4, 1, 5, 6] rfl (by omega) (by omega) ?_
              exact ih13 _ (by omega) (((sm + 2) + 1) + 0) (i + 1) (by omega) (by rw [scl_step hc_1 (by omega)] at hd; (repeat' split at hd) <;> omega) (by omega) rfl
            · refine z_iconst (pc := 107) C dX2_score_107 ?_
              refine z_goto (pc := 108) (tgt := 112) C dX2_score_108 (by decide) ?_
              refine z_iadd (pc := 112) C dX2_score_112 ?_
              refine z_istore_n (pc := 113) (L' := [(2, .int (iI (((sm + 2) + 1) + 2))), (6, .int (iI (pcl c_1.2.2.1))), (5, .ref q_1), (4, .int (iI i)), (3, .int (iI (pcl t))), (1, .ref k), (0, .ref s)]) C dX2_score_113 rfl (by rw [hnL]; decide) rfl ?_
              refine z_iinc (pc := 114) (k := 3) (L' := [(4, .int (iI (i + 1))), (2, .int (iI (((sm + 2) + 1) + 2))), (6, .int (iI (pcl c_1.2.2.1))), (5, .ref q_1), (3, .int (iI (pcl t))), (1, .ref k), (0, .ref s)]) C dX2_score_114 rfl (by rw [hnL]; decide) rfl ?_
              refine z_goto (pc := 117) (tgt := 13) C dX2_score_117 (by decide) ?_
              refine Z.weak (L' := [(4, .int (iI (i + 1))), (3, .int (iI (pcl t))), (2, .int (iI (((sm + 2) + 1) + 2))), (1, .ref k), (0, .ref s)]) (kc' := 0) (ks' := 0) [0, 4, 1, 5, 6] rfl (by omega) (by omega) ?_
              exact ih13 _ (by omega) (((sm + 2) + 1) + 2) (i + 1) (by omega) (by rw [scl_step hc_1 (by omega)] at hd; (repeat' split at hd) <;> omega) (by omega) rfl
          · refine z_iconst (pc := 85) C dX2_score_85 ?_
            refine z_goto (pc := 86) (tgt := 90) C dX2_score_86 (by decide) ?_
            refine z_iadd (pc := 90) C dX2_score_90 ?_
            refine z_istore_n (pc := 91) (L' := [(2, .int (iI ((sm + 2) + 2))), (6, .int (iI (pcl c_1.2.2.1))), (5, .ref q_1), (4, .int (iI i)), (3, .int (iI (pcl t))), (1, .ref k), (0, .ref s)]) C dX2_score_91 rfl (by rw [hnL]; decide) rfl ?_
            refine z_iload_n (pc := 92) (j := 0) C dX2_score_92 rfl rfl ?_
            refine z_iload (pc := 93) (j := 3) C dX2_score_93 rfl ?_
            refine z_aload_n (pc := 95) (j := 6) C dX2_score_95 rfl rfl ?_
            refine z_getfield (pc := 96) (v := .ref cq) C in_X2 rfl 1 (by decide) q169 (fun _ z => z) hs rfl dX2_score_96 ?_
            refine z_callV (pc := 99) (n := 0) (kc' := 0) (ks' := 0) C (ct_L_size C.t hcq) (lw_V q902 q367 q368 q68 q369) (by decide +kernel) ⟨by decide, by decide⟩ hcq rfl rfl rfl (Nat.le_of_ble_eq_true rfl) dX2_score_99 (by omega) (by omega) (zpk (st' := [.int (iI ((cs.length : Nat) : Int)), .int (iI i), .int (iI ((sm + 2) + 2))]) rfl ?_) zrx
            refine z_iconst (pc := 102) C dX2_score_102 ?_
            refine z_isub (pc := 103) C dX2_score_103 ?_
            refine z_icmp_ne (pc := 104) (tgt := 111) C dX2_score_104 (by decide) (by omega) (by omega) (fun c104 => ?_) (fun c104 => ?_)
            · refine z_iconst (pc := 111) C dX2_score_111 ?_
              refine z_iadd (pc := 112) C dX2_score_112 ?_
              refine z_istore_n (pc := 113) (L' := [(2, .int (iI (((sm + 2) + 2) + 0))), (6, .int (iI (pcl c_1.2.2.1))), (5, .ref q_1), (4, .int (iI i)), (3, .int (iI (pcl t))), (1, .ref k), (0, .ref s)]) C dX2_score_113 rfl (by rw [hnL]; decide) rfl ?_
              refine z_iinc (pc := 114) (k := 3) (L' := [(4, .int (iI (i + 1))), (2, .int (iI (((sm + 2) + 2) + 0))), (6, .int (iI (pcl c_1.2.2.1))), (5, .ref q_1), (3, .int (iI (pcl t))), (1, .ref k), (0, .ref s)]) C dX2_score_114 rfl (by rw [hnL]; decide) rfl ?_
              refine z_goto (pc := 117) (tgt := 13) C dX2_score_117 (by decide) ?_
              refine Z.weak (L' := [(4, .int (iI (i + 1))), (3, .int (iI (pcl t))), (2, .int (iI (((sm + 2) + 2) + 0))), (1, .ref k), (0, .ref s)]) (kc' := 0) (ks' := 0) [0, 4, 1, 5, 6] rfl (by omega) (by omega) ?_
              exact ih13 _ (by omega) (((sm + 2) + 2) + 0) (i + 1) (by omega) (by rw [scl_step hc_1 (by omega)] at hd; (repeat' split at hd) <;> omega) (by omega) rfl
            · refine z_iconst (pc := 107) C dX2_score_107 ?_
              refine z_goto (pc := 108) (tgt := 112) C dX2_score_108 (by decide) ?_
              refine z_iadd (pc := 112) C dX2_score_112 ?_
              refine z_istore_n (pc := 113) (L' := [(2, .int (iI (((sm + 2) + 2) + 2))), (6, .int (iI (pcl c_1.2.2.1))), (5, .ref q_1), (4, .int (iI i)), (3, .int (iI (pcl t))), (1, .ref k), (0, .ref s)]) C dX2_score_113 rfl (by rw [hnL]; decide) rfl ?_
              refine z_iinc (pc := 114) (k := 3) (L' := [(4, .int (iI (i + 1))), (2, .int (iI (((sm + 2) + 2) + 2))), (6, .int (iI (pcl c_1.2.2.1))), (5, .ref q_1), (3, .int (iI (pcl t))), (1, .ref k), (0, .ref s)]) C dX2_score_114 rfl (by rw [hnL]; decide) rfl ?_
              refine z_goto (pc := 117) (tgt := 13) C dX2_score_117 (by decide) ?_
              refine Z.weak (L' := [(4, .int (iI (i + 1))), (3, .int (iI (pcl t))), (2, .int (iI (((sm + 2) + 2) + 2))), (1, .ref k), (0, .ref s)]) (kc' := 0) (ks' := 0) [0, 4, 1, 5, 6] rfl (by omega) (by omega) ?_
              exact ih13 _ (by omega) (((sm + 2) + 2) + 2) (i + 1) (by omega) (by rw [scl_step hc_1 (by omega)] at hd; (repeat' split at hd) <;> omega) (by omega) rfl
  refine Z.weak (L' := [(4, .int (iI 0)), (3, .int (iI (pcl t))), (2, .int (iI 0)), (1, .ref k), (0, .ref s)]) (kc' := 0) (ks' := 0) [0, 1, 2, 4, 3] rfl (by omega) (by omega) ?_
  exact loop13 _ 0 0 (by omega) (by simp) (by omega) rfl
set_option maxHeartbeats 4000000 in
theorem ct_S_lik {l : Launch} (hl : l.stackTraces = false) {Γ : zCx} {h : zH} {s lq cq kq e cap : Nat} {fa fb fc : Bool} {f : Nat → Value} {mm : Int} {cs : List zCh} (hs : h s = some (fa, .inr (1, [.ref lq, .ref cq, .ref kq]))) (hcq : h cq = some (fb, .inr (10, [.int (iI mm), .ref e, .int (iI ((cs.length : Nat) : Int))]))) (he : h e = some (fc, .inl (.object "java/lang/Object", cap, f))) (hcl : clA h f cs) (hn : cs.length ≤ cap ∧ cap ≤ 100000) (hrg : ∀ c ∈ cs, crg c) (hm100 : cs.length ≤ 1000)  : zMet l yX2_likeliest (ws_ yX2_likeliest cX2_likeliest 5 (some (.object "ChordSheet$Key"))) ({ frames := 4, cells := 27, slots := 54, locals := 91 }) Γ h [.ref s] (zrt (fun w h' => ∃ k', w = some (.ref k') ∧ h' k' = some (false, .inr (2, [.int (iI (lik cs).1), .int (iI (lik cs).2)])) ∧ zkeep h h' [])) 27 54 := by
  refine zMet.of (cc := cX2_likeliest) hl (plainFor_of_name (by decide +kernel)) (Nat.le_of_ble_eq_true rfl) ?_
  intro X hXl hXΓ hXp C hnm hnL
  have C : zC X cX2_likeliest RX2 (some (.object "ChordSheet$Key")) 4 91 [] := C
  have hnL : X.2.1.2.2.2.2 = 5 := hnL
  subst hXl hXΓ
  show Z X h 27 54 [(0, .ref s)] 0 []
  refine z_new (pc := 0) (ci := 2) (kc' := 26) (ks' := 52) (fs := [.int (iI 0), .int (iI 0)]) C in_X3 tyX3 tyX3_ok rfl q885 q118 q65 df_X3 (by omega) (by omega) dX2_likeliest_0 (fun a1 fa1 => ?_)
  refine Z.nm (fun h2 eh2 => ?_)
  have na1 : h a1 = none := fa1
  have kh2 : zkeep h h2 [] := by rw [eh2]; exact zkeep.born zkeep.rf fa1
  have fh2_0 : h2 a1 = some (true, .inr (2, [.int (iI 0), .int (iI 0)])) := zse eh2
  refine z_dup (pc := 3) C dX2_likeliest_3 rfl ?_
  refine z_iconst (pc := 4) C dX2_likeliest_4 ?_
  refine z_iconst (pc := 5) C dX2_likeliest_5 ?_
  refine z_callI (pc := 6) (n := 2) (kc' := 26) (ks' := 52) C (ct_K_init C.t (t := 0) (m := 0) fh2_0 (by omega)) q121 q65 q886 q120 rfl (by decide +kernel) ⟨by decide, by decide⟩ rfl rfl (Nat.le_of_ble_eq_true rfl) dX2_likeliest_6 (by omega) (by omega) (zrk fun w h3 hp => ?_) zrx
  obtain ⟨rfl, fq4, k5⟩ := hp
  have kh3 : zkeep h h3 [] := zkeep.loc kh2 k5 (zall_cons (Or.inl (Or.symm (Or.inr na1))) zall_nil)
  show Z X h3 26 52 [(0, .ref s)] 9 [.ref a1]
  refine z_astore_n (pc := 9) (L' := [(1, .ref a1), (0, .ref s)]) C dX2_likeliest_9 rfl (by rw [hnL]; decide) rfl ?_
  refine z_iconst (pc := 10) C dX2_likeliest_10 ?_
  refine z_istore_n (pc := 11) (L' := [(2, .int (iI 0)), (1, .ref a1), (0, .ref s)]) C dX2_likeliest_11 rfl (by rw [hnL]; decide) rfl ?_
  refine z_iload_n (pc := 12) (j := 0) C dX2_likeliest_12 rfl rfl ?_
  refine z_iconst (pc := 13) C dX2_likeliest_13 ?_
  refine z_icmp_ge (pc := 14) (tgt := 92) C dX2_likeliest_14 (by decide) (by decide) (by decide) (fun z => absurd z (by decide)) (fun _ => ?_)
  refine z_iconst (pc := 17) C dX2_likeliest_17 ?_
  refine z_istore_n (pc := 18) (L' := [(3, .int (iI 0)), (2, .int (iI 0)), (1, .ref a1), (0, .ref s)]) C dX2_likeliest_18 rfl (by rw [hnL]; decide) rfl ?_
  have loop19 : ∀ (n19 : Nat) (k : Int) (g : zH) (bq : Nat) (bt : Int) (bm : Int), (0 ≤ k ∧ k ≤ 13) → (zkeep h g []) → (g bq = some (false, .inr (2, [.int (iI bt), .int (iI bm)]))) → ((-20 ≤ bt ∧ bt ≤ 20) ∧ (bm = 0 ∨ bm = 1)) → (lgi cs 0 0 (13 - k).toNat k (bt, bm) = lgi cs 0 0 13 0 (0, 0)) → ((13 - k).toNat) = n19 → Z X g ((26 - k).toNat) ((2 * (26 - k)).toNat) [(3, .int (iI k)), (2, .int (iI 0)), (1, .ref bq), (0, .ref s)] 19 [] := by
    intro n19
    induction n19 using Nat.strongRecOn with
    | ind n19 ih19 =>
    intro k g bq bt bm hk hkp hbq hbr hd hn19
    refine z_iload_n (pc := 19) (j := 0) C dX2_likeliest_19 rfl rfl ?_
    refine z_bipush (pc := 20) C dX2_likeliest_20 (by decide) ?_
    refine z_icmp_ge (pc := 22) (tgt := 86) C dX2_likeliest_22 (by decide) (by omega) (by decide) (fun c22 => ?_) (fun c22 => ?_)
    · have hE : (bt, bm) = lgi cs 0 0 13 0 (0, 0) := by rw [show (13 - k).toNat = 0 by omega, lgi] at hd; exact hd
      refine z_iinc (pc := 86) (k := 1) (L' := [(2, .int (iI 1)), (3, .int (iI k)), (1, .ref bq), (0, .ref s)]) C dX2_likeliest_86 rfl (by rw [hnL]; decide) rfl ?_
      refine z_goto (pc := 89) (tgt := 12) C dX2_likeliest_89 (by decide) ?_
      refine z_iload_n (pc := 12) (j := 0) C dX2_likeliest_12 rfl rfl ?_
      refine z_iconst (pc := 13) C dX2_likeliest_13 ?_
      refine z_icmp_ge (pc := 14) (tgt := 92) C dX2_likeliest_14 (by decide) (by decide) (by decide) (fun z => absurd z (by decide)) (fun _ => ?_)
      refine z_iconst (pc := 17) C dX2_likeliest_17 ?_
      refine z_istore_n (pc := 18) (L' := [(3, .int (iI 0)), (2, .int (iI 1)), (1, .ref bq), (0, .ref s)]) C dX2_likeliest_18 rfl (by rw [hnL]; decide) rfl ?_
      have loop19 : ∀ (n19 : Nat) (k : Int) (g : zH) (bq : Nat) (bt : Int) (bm : Int), (0 ≤ k ∧ k ≤ 13) → (zkeep h g []) → (g bq = some (false, .inr (2, [.int (iI bt), .int (iI bm)]))) → ((-20 ≤ bt ∧ bt ≤ 20) ∧ (bm = 0 ∨ bm = 1)) → (lgi cs 1 3 (13 - k).toNat k (bt, bm) = lik cs) → ((13 - k).toNat) = n19 → Z X g ((13 - k).toNat) ((2 * (13 - k)).toNat) [(3, .int (iI k)), (2, .int (iI 1)), (1, .ref bq), (0, .ref s)] 19 [] := by
        intro n19
        induction n19 using Nat.strongRecOn with
        | ind n19 ih19 =>
        intro k g bq bt bm hk hkp hbq hbr hd hn19
        refine z_iload_n (pc := 19) (j := 0) C dX2_likeliest_19 rfl rfl ?_
        refine z_bipush (pc := 20) C dX2_likeliest_20 (by decide) ?_
        refine z_icmp_ge (pc := 22) (tgt := 86) C dX2_likeliest_22 (by decide) (by omega) (by decide) (fun c22 => ?_) (fun c22 => ?_)
        · have hE : (bt, bm) = lik cs := by rw [show (13 - k).toNat = 0 by omega, lgi] at hd; exact hd
          refine z_iinc (pc := 86) (k := 1) (L' := [(2, .int (iI 2)), (3, .int (iI k)), (1, .ref bq), (0, .ref s)]) C dX2_likeliest_86 rfl (by rw [hnL]; decide) rfl ?_
          refine z_goto (pc := 89) (tgt := 12) C dX2_likeliest_89 (by decide) ?_
          refine z_iload_n (pc := 12) (j := 0) C dX2_likeliest_12 rfl rfl ?_
          refine z_iconst (pc := 13) C dX2_likeliest_13 ?_
          refine z_icmp_ge (pc := 14) (tgt := 92) C dX2_likeliest_14 (by decide) (by decide) (by decide) (fun _ => ?_) (fun z => absurd z (by decide))
          refine z_aload_n (pc := 92) (j := 2) C dX2_likeliest_92 rfl rfl ?_
          exact z_areturn (pc := 93) C (Or.inl ⟨_, rfl⟩) (Or.inr ⟨_, rfl⟩) (by rw [hXp]; exact ⟨_, rfl, bq, rfl, (by rw [← hE]; exact hbq), hkp⟩) dX2_likeliest_93
        · refine z_iload_n (pc := 25) (j := 0) C dX2_likeliest_25 rfl rfl ?_
          refine z_iconst (pc := 26) C dX2_likeliest_26 ?_
          refine z_iremI (pc := 27) C dX2_likeliest_27 (by omega) (by decide) ?_
          rw [show ((k.tmod 2) : Int) = k % 2 from Int.tmod_eq_emod_of_nonneg (by omega)]
          show Z X g ((13 - k).toNat) ((2 * (13 - k)).toNat) [(3, .int (iI k)), (2, .int (iI 1)), (1, .ref bq), (0, .ref s)] 28 [.int (iI (k % 2))]
          refine z_iconst (pc := 28) C dX2_likeliest_28 ?_
          refine z_icmp_ne (pc := 29) (tgt := 40) C dX2_likeliest_29 (by decide) (by omega) (by decide) (fun c29 => ?_) (fun c29 => ?_)
          · refine z_iload_n (pc := 40) (j := 0) C dX2_likeliest_40 rfl rfl ?_
            refine z_ineg (pc := 41) C dX2_likeliest_41 ?_
            refine z_iconst (pc := 42) C dX2_likeliest_42 ?_
            refine z_idivI (pc := 43) C dX2_likeliest_43 (by omega) (by decide) ?_
            rw [show (((-k).tdiv 2) : Int) = -(k / 2) from by rw [Int.neg_tdiv, Int.tdiv_eq_ediv_of_nonneg (by omega)]]
            show Z X g ((13 - k).toNat) ((2 * (13 - k)).toNat) [(3, .int (iI k)), (2, .int (iI 1)), (1, .ref bq), (0, .ref s)] 44 [.int (iI (-(k / 2)))]
            refine z_iload_n (pc := 44) (j := 1) C dX2_likeliest_44 rfl rfl ?_
            refine z_iconst (pc := 45) C dX2_likeliest_45 ?_
            refine z_icmp_ne (pc := 46) (tgt := 53) C dX2_likeliest_46 (by decide) (by decide) (by decide) (fun z => absurd z (by decide)) (fun _ => ?_)
            refine z_iconst (pc := 49) C dX2_likeliest_49 ?_
            refine z_goto (pc := 50) (tgt := 54) C dX2_likeliest_50 (by decide) ?_
            refine z_callS (pc := 54) (n := 2) (kc' := ((13 - k).toNat - 1)) (ks' := ((2 * (13 - k)).toNat - 2)) C (ct_K_ofSig C.t (s := -(k / 2)) (m := 1) (by omega) (by omega)) (lw_S q887 q888 q65 q889) (by decide +kernel) ⟨by decide, by decide⟩ rfl rfl (Nat.le_of_ble_eq_true rfl) dX2_likeliest_54 (by omega) (by omega) (zrk fun w h7 hp => ?_) zrx
            obtain ⟨a6, rfl, fka6, fa6, k8⟩ := hp
            have na6 : h a6 = none := hkp.none0 fa6 List.not_mem_nil
            have kh7 : zkeep h h7 [] := zkeep.loc hkp k8 zall_nil
            have fh7_1 : h7 bq = some (false, .inr (2, [.int (iI bt), .int (iI bm)])) := k8.f hbq
            show Z X h7 ((13 - k).toNat - 1) ((2 * (13 - k)).toNat - 2) [(3, .int (iI k)), (2, .int (iI 1)), (1, .ref bq), (0, .ref s)] 57 [.ref a6]
            have ek : (-(k / 2)) + (if 1 = 1 then 3 else 0) = sgk k + 3 := by unfold sgk; (repeat' split) <;> omega
            have hsk : -7 ≤ sgk k ∧ sgk k ≤ 7 := by unfold sgk; split <;> omega
            have fkk : h7 a6 = some (false, .inr (2, [.int (iI (sgk k + 3)), .int (iI 1)])) := ek ▸ fka6
            refine z_astore (pc := 57) (L' := [(4, .ref a6), (3, .int (iI k)), (2, .int (iI 1)), (1, .ref bq), (0, .ref s)]) C dX2_likeliest_57 (by rw [hnL]; decide) rfl ?_
            refine z_aload_n (pc := 59) (j := 4) C dX2_likeliest_59 rfl rfl ?_
            refine z_aload (pc := 60) (j := 0) C dX2_likeliest_60 rfl ?_
            refine z_callV (pc := 62) (n := 1) (kc' := ((13 - k).toNat - 1)) (ks' := ((2 * (13 - k)).toNat - 2)) C (ct_S_score C.t (kh7.n hs List.not_mem_nil) (kh7.n hcq List.not_mem_nil) (kh7.n he List.not_mem_nil) (clA.keep kh7 hcl) hn hrg hm100 fkk (by omega) (by omega)) (lw_V q892 q893 q894 q64 q895) (by decide +kernel) ⟨by decide, by decide⟩ (kh7.n hs List.not_mem_nil) rfl rfl rfl (Nat.le_of_ble_eq_true rfl) dX2_likeliest_62 (by omega) (by omega) (zpk (st' := [.int (iI (scl (sgk k + 3) 1 cs))]) rfl ?_) zrx
            refine z_aload_n (pc := 65) (j := 4) C dX2_likeliest_65 rfl rfl ?_
            refine z_aload_n (pc := 66) (j := 3) C dX2_likeliest_66 rfl rfl ?_
            refine z_callV (pc := 67) (n := 1) (kc' := ((13 - k).toNat - 1)) (ks' := ((2 * (13 - k)).toNat - 2)) C (ct_S_score C.t (kh7.n hs List.not_mem_nil) (kh7.n hcq List.not_mem_nil) (kh7.n he List.not_mem_nil) (clA.keep kh7 hcl) hn hrg hm100 fh7_1 (by omega) (by omega)) (lw_V q892 q893 q894 q64 q895) (by decide +kernel) ⟨by decide, by decide⟩ (kh7.n hs List.not_mem_nil) rfl rfl rfl (Nat.le_of_ble_eq_true rfl) dX2_likeliest_67 (by omega) (by omega) (zpk (st' := [.int (iI (scl bt bm cs)), .int (iI (scl (sgk k + 3) 1 cs))]) rfl ?_) zrx
            have hr1 := scl_r (sgk k + 3) 1 cs
            have hr2 := scl_r bt bm cs
            refine z_icmp_le (pc := 70) (tgt := 78) C dX2_likeliest_70 (by decide) (by omega) (by omega) (fun c70 => ?_) (fun c70 => ?_)
            · rw [show (13 - k).toNat = (13 - (k + 1)).toNat + 1 by omega, lgi] at hd
              dsimp only at hd
              rw [if_neg (by omega)] at hd
              refine z_aload_n (pc := 78) (j := 3) C dX2_likeliest_78 rfl rfl ?_
              refine z_astore_n (pc := 79) (L' := [(1, .ref bq), (4, .ref a6), (3, .int (iI k)), (2, .int (iI 1)), (0, .ref s)]) C dX2_likeliest_79 rfl (by rw [hnL]; decide) rfl ?_
              refine z_iinc (pc := 80) (k := 2) (L' := [(3, .int (iI (k + 1))), (1, .ref bq), (4, .ref a6), (2, .int (iI 1)), (0, .ref s)]) C dX2_likeliest_80 rfl (by rw [hnL]; decide) rfl ?_
              refine z_goto (pc := 83) (tgt := 19) C dX2_likeliest_83 (by decide) ?_
              refine Z.weak (L' := [(3, .int (iI (k + 1))), (2, .int (iI 1)), (1, .ref bq), (0, .ref s)]) (kc' := (13 - (k + 1)).toNat) (ks' := (2 * (13 - (k + 1))).toNat) [0, 3, 1, 4] rfl (by omega) (by omega) ?_
              exact ih19 _ (by omega) (k + 1) h7 bq bt bm (by omega) kh7 fh7_1 (by have := hsk; omega) hd rfl
            · rw [show (13 - k).toNat = (13 - (k + 1)).toNat + 1 by omega, lgi] at hd
              dsimp only at hd
              rw [if_pos (by omega)] at hd
              refine z_aload (pc := 73) (j := 0) C dX2_likeliest_73 rfl ?_
              refine z_goto (pc := 75) (tgt := 79) C dX2_likeliest_75 (by decide) ?_
              refine z_astore_n (pc := 79) (L' := [(1, .ref a6), (4, .ref a6), (3, .int (iI k)), (2, .int (iI 1)), (0, .ref s)]) C dX2_likeliest_79 rfl (by rw [hnL]; decide) rfl ?_
              refine z_iinc (pc := 80) (k := 2) (L' := [(3, .int (iI (k + 1))), (1, .ref a6), (4, .ref a6), (2, .int (iI 1)), (0, .ref s)]) C dX2_likeliest_80 rfl (by rw [hnL]; decide) rfl ?_
              refine z_goto (pc := 83) (tgt := 19) C dX2_likeliest_83 (by decide) ?_
              refine Z.weak (L' := [(3, .int (iI (k + 1))), (2, .int (iI 1)), (1, .ref a6), (0, .ref s)]) (kc' := (13 - (k + 1)).toNat) (ks' := (2 * (13 - (k + 1))).toNat) [0, 3, 1, 4] rfl (by omega) (by omega) ?_
              exact ih19 _ (by omega) (k + 1) h7 a6 (sgk k + 3) 1 (by omega) kh7 fkk (by have := hsk; omega) hd rfl
          · refine z_iload_n (pc := 32) (j := 0) C dX2_likeliest_32 rfl rfl ?_
            refine z_iconst (pc := 33) C dX2_likeliest_33 ?_
            refine z_iadd (pc := 34) C dX2_likeliest_34 ?_
            refine z_iconst (pc := 35) C dX2_likeliest_35 ?_
            refine z_idivI (pc := 36) C dX2_likeliest_36 (by omega) (by decide) ?_
            rw [show (((k + 1).tdiv 2) : Int) = (k + 1) / 2 from Int.tdiv_eq_ediv_of_nonneg (by omega)]
            show Z X g ((13 - k).toNat) ((2 * (13 - k)).toNat) [(3, .int (iI k)), (2, .int (iI 1)), (1, .ref bq), (0, .ref s)] 37 [.int (iI ((k + 1) / 2))]
            refine z_goto (pc := 37) (tgt := 44) C dX2_likeliest_37 (by decide) ?_
            refine z_iload_n (pc := 44) (j := 1) C dX2_likeliest_44 rfl rfl ?_
            refine z_iconst (pc := 45) C dX2_likeliest_45 ?_
            refine z_icmp_ne (pc := 46) (tgt := 53) C dX2_likeliest_46 (by decide) (by decide) (by decide) (fun z => absurd z (by decide)) (fun _ => ?_)
            refine z_iconst (pc := 49) C dX2_likeliest_49 ?_
            refine z_goto (pc := 50) (tgt := 54) C dX2_likeliest_50 (by decide) ?_
            refine z_callS (pc := 54) (n := 2) (kc' := ((13 - k).toNat - 1)) (ks' := ((2 * (13 - k)).toNat - 2)) C (ct_K_ofSig C.t (s := (k + 1) / 2) (m := 1) (by omega) (by omega)) (lw_S q887 q888 q65 q889) (by decide +kernel) ⟨by decide, by decide⟩ rfl rfl (Nat.le_of_ble_eq_true rfl) dX2_likeliest_54 (by omega) (by omega) (zrk fun w h10 hp => ?_) zrx
            obtain ⟨a9, rfl, fka9, fa9, k11⟩ := hp
            have na9 : h a9 = none := hkp.none0 fa9 List.not_mem_nil
            have kh10 : zkeep h h10 [] := zkeep.loc hkp k11 zall_nil
            have fh10_1 : h10 bq = some (false, .inr (2, [.int (iI bt), .int (iI bm)])) := k11.f hbq
            show Z X h10 ((13 - k).toNat - 1) ((2 * (13 - k)).toNat - 2) [(3, .int (iI k)), (2, .int (iI 1)), (1, .ref bq), (0, .ref s)] 57 [.ref a9]
            have ek : ((k + 1) / 2) + (if 1 = 1 then 3 else 0) = sgk k + 3 := by unfold sgk; (repeat' split) <;> omega
            have hsk : -7 ≤ sgk k ∧ sgk k ≤ 7 := by unfold sgk; split <;> omega
            have fkk : h10 a9 = some (false, .inr (2, [.int (iI (sgk k + 3)), .int (iI 1)])) := ek ▸ fka9
            refine z_astore (pc := 57) (L' := [(4, .ref a9), (3, .int (iI k)), (2, .int (iI 1)), (1, .ref bq), (0, .ref s)]) C dX2_likeliest_57 (by rw [hnL]; decide) rfl ?_
            refine z_aload_n (pc := 59) (j := 4) C dX2_likeliest_59 rfl rfl ?_
            refine z_aload (pc := 60) (j := 0) C dX2_likeliest_60 rfl ?_
            refine z_callV (pc := 62) (n := 1) (kc' := ((13 - k).toNat - 1)) (ks' := ((2 * (13 - k)).toNat - 2)) C (ct_S_score C.t (kh10.n hs List.not_mem_nil) (kh10.n hcq List.not_mem_nil) (kh10.n he List.not_mem_nil) (clA.keep kh10 hcl) hn hrg hm100 fkk (by omega) (by omega)) (lw_V q892 q893 q894 q64 q895) (by decide +kernel) ⟨by decide, by decide⟩ (kh10.n hs List.not_mem_nil) rfl rfl rfl (Nat.le_of_ble_eq_true rfl) dX2_likeliest_62 (by omega) (by omega) (zpk (st' := [.int (iI (scl (sgk k + 3) 1 cs))]) rfl ?_) zrx
            refine z_aload_n (pc := 65) (j := 4) C dX2_likeliest_65 rfl rfl ?_
            refine z_aload_n (pc := 66) (j := 3) C dX2_likeliest_66 rfl rfl ?_
            refine z_callV (pc := 67) (n := 1) (kc' := ((13 - k).toNat - 1)) (ks' := ((2 * (13 - k)).toNat - 2)) C (ct_S_score C.t (kh10.n hs List.not_mem_nil) (kh10.n hcq List.not_mem_nil) (kh10.n he List.not_mem_nil) (clA.keep kh10 hcl) hn hrg hm100 fh10_1 (by omega) (by omega)) (lw_V q892 q893 q894 q64 q895) (by decide +kernel) ⟨by decide, by decide⟩ (kh10.n hs List.not_mem_nil) rfl rfl rfl (Nat.le_of_ble_eq_true rfl) dX2_likeliest_67 (by omega) (by omega) (zpk (st' := [.int (iI (scl bt bm cs)), .int (iI (scl (sgk k + 3) 1 cs))]) rfl ?_) zrx
            have hr1 := scl_r (sgk k + 3) 1 cs
            have hr2 := scl_r bt bm cs
            refine z_icmp_le (pc := 70) (tgt := 78) C dX2_likeliest_70 (by decide) (by omega) (by omega) (fun c70 => ?_) (fun c70 => ?_)
            · rw [show (13 - k).toNat = (13 - (k + 1)).toNat + 1 by omega, lgi] at hd
              dsimp only at hd
              rw [if_neg (by omega)] at hd
              refine z_aload_n (pc := 78) (j := 3) C dX2_likeliest_78 rfl rfl ?_
              refine z_astore_n (pc := 79) (L' := [(1, .ref bq), (4, .ref a9), (3, .int (iI k)), (2, .int (iI 1)), (0, .ref s)]) C dX2_likeliest_79 rfl (by rw [hnL]; decide) rfl ?_
              refine z_iinc (pc := 80) (k := 2) (L' := [(3, .int (iI (k + 1))), (1, .ref bq), (4, .ref a9), (2, .int (iI 1)), (0, .ref s)]) C dX2_likeliest_80 rfl (by rw [hnL]; decide) rfl ?_
              refine z_goto (pc := 83) (tgt := 19) C dX2_likeliest_83 (by decide) ?_
              refine Z.weak (L' := [(3, .int (iI (k + 1))), (2, .int (iI 1)), (1, .ref bq), (0, .ref s)]) (kc' := (13 - (k + 1)).toNat) (ks' := (2 * (13 - (k + 1))).toNat) [0, 3, 1, 4] rfl (by omega) (by omega) ?_
              exact ih19 _ (by omega) (k + 1) h10 bq bt bm (by omega) kh10 fh10_1 (by have := hsk; omega) hd rfl
            · rw [show (13 - k).toNat = (13 - (k + 1)).toNat + 1 by omega, lgi] at hd
              dsimp only at hd
              rw [if_pos (by omega)] at hd
              refine z_aload (pc := 73) (j := 0) C dX2_likeliest_73 rfl ?_
              refine z_goto (pc := 75) (tgt := 79) C dX2_likeliest_75 (by decide) ?_
              refine z_astore_n (pc := 79) (L' := [(1, .ref a9), (4, .ref a9), (3, .int (iI k)), (2, .int (iI 1)), (0, .ref s)]) C dX2_likeliest_79 rfl (by rw [hnL]; decide) rfl ?_
              refine z_iinc (pc := 80) (k := 2) (L' := [(3, .int (iI (k + 1))), (1, .ref a9), (4, .ref a9), (2, .int (iI 1)), (0, .ref s)]) C dX2_likeliest_80 rfl (by rw [hnL]; decide) rfl ?_
              refine z_goto (pc := 83) (tgt := 19) C dX2_likeliest_83 (by decide) ?_
              refine Z.weak (L' := [(3, .int (iI (k + 1))), (2, .int (iI 1)), (1, .ref a9), (0, .ref s)]) (kc' := (13 - (k + 1)).toNat) (ks' := (2 * (13 - (k + 1))).toNat) [0, 3, 1, 4] rfl (by omega) (by omega) ?_
              exact ih19 _ (by omega) (k + 1) h10 a9 (sgk k + 3) 1 (by omega) kh10 fkk (by have := hsk; omega) hd rfl
      refine Z.weak (L' := [(3, .int (iI 0)), (2, .int (iI 1)), (1, .ref bq), (0, .ref s)]) (kc' := (13 - (0 : Int)).toNat) (ks' := (2 * (13 - (0 : Int))).toNat) [0, 1, 2, 3] rfl (by omega) (by omega) ?_
      exact loop19 _ 0 g bq bt bm (by omega) hkp hbq (by omega) (by rw [hE]; rfl) rfl
    · refine z_iload_n (pc := 25) (j := 0) C dX2_likeliest_25 rfl rfl ?_
      refine z_iconst (pc := 26) C dX2_likeliest_26 ?_
      refine z_iremI (pc := 27) C dX2_likeliest_27 (by omega) (by decide) ?_
      rw [show ((k.tmod 2) : Int) = k % 2 from Int.tmod_eq_emod_of_nonneg (by omega)]
      show Z X g ((26 - k).toNat) ((2 * (26 - k)).toNat) [(3, .int (iI k)), (2, .int (iI 0)), (1, .ref bq), (0, .ref s)] 28 [.int (iI (k % 2))]
      refine z_iconst (pc := 28) C dX2_likeliest_28 ?_
      refine z_icmp_ne (pc := 29) (tgt := 40) C dX2_likeliest_29 (by decide) (by omega) (by decide) (fun c29 => ?_) (fun c29 => ?_)
      · refine z_iload_n (pc := 40) (j := 0) C dX2_likeliest_40 rfl rfl ?_
        refine z_ineg (pc := 41) C dX2_likeliest_41 ?_
        refine z_iconst (pc := 42) C dX2_likeliest_42 ?_
        refine z_idivI (pc := 43) C dX2_likeliest_43 (by omega) (by decide) ?_
        rw [show (((-k).tdiv 2) : Int) = -(k / 2) from by rw [Int.neg_tdiv, Int.tdiv_eq_ediv_of_nonneg (by omega)]]
        show Z X g ((26 - k).toNat) ((2 * (26 - k)).toNat) [(3, .int (iI k)), (2, .int (iI 0)), (1, .ref bq), (0, .ref s)] 44 [.int (iI (-(k / 2)))]
        refine z_iload_n (pc := 44) (j := 1) C dX2_likeliest_44 rfl rfl ?_
        refine z_iconst (pc := 45) C dX2_likeliest_45 ?_
        refine z_icmp_ne (pc := 46) (tgt := 53) C dX2_likeliest_46 (by decide) (by decide) (by decide) (fun _ => ?_) (fun z => absurd z (by decide))
        refine z_iconst (pc := 53) C dX2_likeliest_53 ?_
        refine z_callS (pc := 54) (n := 2) (kc' := ((26 - k).toNat - 1)) (ks' := ((2 * (26 - k)).toNat - 2)) C (ct_K_ofSig C.t (s := -(k / 2)) (m := 0) (by omega) (by omega)) (lw_S q887 q888 q65 q889) (by decide +kernel) ⟨by decide, by decide⟩ rfl rfl (Nat.le_of_ble_eq_true rfl) dX2_likeliest_54 (by omega) (by omega) (zrk fun w h13 hp => ?_) zrx
        obtain ⟨a12, rfl, fka12, fa12, k14⟩ := hp
        have na12 : h a12 = none := hkp.none0 fa12 List.not_mem_nil
        have kh13 : zkeep h h13 [] := zkeep.loc hkp k14 zall_nil
        have fh13_1 : h13 bq = some (false, .inr (2, [.int (iI bt), .int (iI bm)])) := k14.f hbq
        show Z X h13 ((26 - k).toNat - 1) ((2 * (26 - k)).toNat - 2) [(3, .int (iI k)), (2, .int (iI 0)), (1, .ref bq), (0, .ref s)] 57 [.ref a12]
        have ek : (-(k / 2)) + (if 0 = 1 then 3 else 0) = sgk k + 0 := by unfold sgk; (repeat' split) <;> omega
        have hsk : -7 ≤ sgk k ∧ sgk k ≤ 7 := by unfold sgk; split <;> omega
        have fkk : h13 a12 = some (false, .inr (2, [.int (iI (sgk k + 0)), .int (iI 0)])) := ek ▸ fka12
        refine z_astore (pc := 57) (L' := [(4, .ref a12), (3, .int (iI k)), (2, .int (iI 0)), (1, .ref bq), (0, .ref s)]) C dX2_likeliest_57 (by rw [hnL]; decide) rfl ?_
        refine z_aload_n (pc := 59) (j := 4) C dX2_likeliest_59 rfl rfl ?_
        refine z_aload (pc := 60) (j := 0) C dX2_likeliest_60 rfl ?_
        refine z_callV (pc := 62) (n := 1) (kc' := ((26 - k).toNat - 1)) (ks' := ((2 * (26 - k)).toNat - 2)) C (ct_S_score C.t (kh13.n hs List.not_mem_nil) (kh13.n hcq List.not_mem_nil) (kh13.n he List.not_mem_nil) (clA.keep kh13 hcl) hn hrg hm100 fkk (by omega) (by omega)) (lw_V q892 q893 q894 q64 q895) (by decide +kernel) ⟨by decide, by decide⟩ (kh13.n hs List.not_mem_nil) rfl rfl rfl (Nat.le_of_ble_eq_true rfl) dX2_likeliest_62 (by omega) (by omega) (zpk (st' := [.int (iI (scl (sgk k + 0) 0 cs))]) rfl ?_) zrx
        refine z_aload_n (pc := 65) (j := 4) C dX2_likeliest_65 rfl rfl ?_
        refine z_aload_n (pc := 66) (j := 3) C dX2_likeliest_66 rfl rfl ?_
        refine z_callV (pc := 67) (n := 1) (kc' := ((26 - k).toNat - 1)) (ks' := ((2 * (26 - k)).toNat - 2)) C (ct_S_score C.t (kh13.n hs List.not_mem_nil) (kh13.n hcq List.not_mem_nil) (kh13.n he List.not_mem_nil) (clA.keep kh13 hcl) hn hrg hm100 fh13_1 (by omega) (by omega)) (lw_V q892 q893 q894 q64 q895) (by decide +kernel) ⟨by decide, by decide⟩ (kh13.n hs List.not_mem_nil) rfl rfl rfl (Nat.le_of_ble_eq_true rfl) dX2_likeliest_67 (by omega) (by omega) (zpk (st' := [.int (iI (scl bt bm cs)), .int (iI (scl (sgk k + 0) 0 cs))]) rfl ?_) zrx
        have hr1 := scl_r (sgk k + 0) 0 cs
        have hr2 := scl_r bt bm cs
        refine z_icmp_le (pc := 70) (tgt := 78) C dX2_likeliest_70 (by decide) (by omega) (by omega) (fun c70 => ?_) (fun c70 => ?_)
        · rw [show (13 - k).toNat = (13 - (k + 1)).toNat + 1 by omega, lgi] at hd
          dsimp only at hd
          rw [if_neg (by omega)] at hd
          refine z_aload_n (pc := 78) (j := 3) C dX2_likeliest_78 rfl rfl ?_
          refine z_astore_n (pc := 79) (L' := [(1, .ref bq), (4, .ref a12), (3, .int (iI k)), (2, .int (iI 0)), (0, .ref s)]) C dX2_likeliest_79 rfl (by rw [hnL]; decide) rfl ?_
          refine z_iinc (pc := 80) (k := 2) (L' := [(3, .int (iI (k + 1))), (1, .ref bq), (4, .ref a12), (2, .int (iI 0)), (0, .ref s)]) C dX2_likeliest_80 rfl (by rw [hnL]; decide) rfl ?_
          refine z_goto (pc := 83) (tgt := 19) C dX2_likeliest_83 (by decide) ?_
          refine Z.weak (L' := [(3, .int (iI (k + 1))), (2, .int (iI 0)), (1, .ref bq), (0, .ref s)]) (kc' := (26 - (k + 1)).toNat) (ks' := (2 * (26 - (k + 1))).toNat) [0, 3, 1, 4] rfl (by omega) (by omega) ?_
          exact ih19 _ (by omega) (k + 1) h13 bq bt bm (by omega) kh13 fh13_1 (by have := hsk; omega) hd rfl
        · rw [show (13 - k).toNat = (13 - (k + 1)).toNat + 1 by omega, lgi] at hd
          dsimp only at hd
          rw [if_pos (by omega)] at hd
          refine z_aload (pc := 73) (j := 0) C dX2_likeliest_73 rfl ?_
          refine z_goto (pc := 75) (tgt := 79) C dX2_likeliest_75 (by decide) ?_
          refine z_astore_n (pc := 79) (L' := [(1, .ref a12), (4, .ref a12), (3, .int (iI k)), (2, .int (iI 0)), (0, .ref s)]) C dX2_likeliest_79 rfl (by rw [hnL]; decide) rfl ?_
          refine z_iinc (pc := 80) (k := 2) (L' := [(3, .int (iI (k + 1))), (1, .ref a12), (4, .ref a12), (2, .int (iI 0)), (0, .ref s)]) C dX2_likeliest_80 rfl (by rw [hnL]; decide) rfl ?_
          refine z_goto (pc := 83) (tgt := 19) C dX2_likeliest_83 (by decide) ?_
          refine Z.weak (L' := [(3, .int (iI (k + 1))), (2, .int (iI 0)), (1, .ref a12), (0, .ref s)]) (kc' := (26 - (k + 1)).toNat) (ks' := (2 * (26 - (k + 1))).toNat) [0, 3, 1, 4] rfl (by omega) (by omega) ?_
          exact ih19 _ (by omega) (k + 1) h13 a12 (sgk k + 0) 0 (by omega) kh13 fkk (by have := hsk; omega) hd rfl
      · refine z_iload_n (pc := 32) (j := 0) C dX2_likeliest_32 rfl rfl ?_
        refine z_iconst (pc := 33) C dX2_likeliest_33 ?_
        refine z_iadd (pc := 34) C dX2_likeliest_34 ?_
        refine z_iconst (pc := 35) C dX2_likeliest_35 ?_
        refine z_idivI (pc := 36) C dX2_likeliest_36 (by omega) (by decide) ?_
        rw [show (((k + 1).tdiv 2) : Int) = (k + 1) / 2 from Int.tdiv_eq_ediv_of_nonneg (by omega)]
        show Z X g ((26 - k).toNat) ((2 * (26 - k)).toNat) [(3, .int (iI k)), (2, .int (iI 0)), (1, .ref bq), (0, .ref s)] 37 [.int (iI ((k + 1) / 2))]
        refine z_goto (pc := 37) (tgt := 44) C dX2_likeliest_37 (by decide) ?_
        refine z_iload_n (pc := 44) (j := 1) C dX2_likeliest_44 rfl rfl ?_
        refine z_iconst (pc := 45) C dX2_likeliest_45 ?_
        refine z_icmp_ne (pc := 46) (tgt := 53) C dX2_likeliest_46 (by decide) (by decide) (by decide) (fun _ => ?_) (fun z => absurd z (by decide))
        refine z_iconst (pc := 53) C dX2_likeliest_53 ?_
        refine z_callS (pc := 54) (n := 2) (kc' := ((26 - k).toNat - 1)) (ks' := ((2 * (26 - k)).toNat - 2)) C (ct_K_ofSig C.t (s := (k + 1) / 2) (m := 0) (by omega) (by omega)) (lw_S q887 q888 q65 q889) (by decide +kernel) ⟨by decide, by decide⟩ rfl rfl (Nat.le_of_ble_eq_true rfl) dX2_likeliest_54 (by omega) (by omega) (zrk fun w h16 hp => ?_) zrx
        obtain ⟨a15, rfl, fka15, fa15, k17⟩ := hp
        have na15 : h a15 = none := hkp.none0 fa15 List.not_mem_nil
        have kh16 : zkeep h h16 [] := zkeep.loc hkp k17 zall_nil
        have fh16_1 : h16 bq = some (false, .inr (2, [.int (iI bt), .int (iI bm)])) := k17.f hbq
        show Z X h16 ((26 - k).toNat - 1) ((2 * (26 - k)).toNat - 2) [(3, .int (iI k)), (2, .int (iI 0)), (1, .ref bq), (0, .ref s)] 57 [.ref a15]
        have ek : ((k + 1) / 2) + (if 0 = 1 then 3 else 0) = sgk k + 0 := by unfold sgk; (repeat' split) <;> omega
        have hsk : -7 ≤ sgk k ∧ sgk k ≤ 7 := by unfold sgk; split <;> omega
        have fkk : h16 a15 = some (false, .inr (2, [.int (iI (sgk k + 0)), .int (iI 0)])) := ek ▸ fka15
        refine z_astore (pc := 57) (L' := [(4, .ref a15), (3, .int (iI k)), (2, .int (iI 0)), (1, .ref bq), (0, .ref s)]) C dX2_likeliest_57 (by rw [hnL]; decide) rfl ?_
        refine z_aload_n (pc := 59) (j := 4) C dX2_likeliest_59 rfl rfl ?_
        refine z_aload (pc := 60) (j := 0) C dX2_likeliest_60 rfl ?_
        refine z_callV (pc := 62) (n := 1) (kc' := ((26 - k).toNat - 1)) (ks' := ((2 * (26 - k)).toNat - 2)) C (ct_S_score C.t (kh16.n hs List.not_mem_nil) (kh16.n hcq List.not_mem_nil) (kh16.n he List.not_mem_nil) (clA.keep kh16 hcl) hn hrg hm100 fkk (by omega) (by omega)) (lw_V q892 q893 q894 q64 q895) (by decide +kernel) ⟨by decide, by decide⟩ (kh16.n hs List.not_mem_nil) rfl rfl rfl (Nat.le_of_ble_eq_true rfl) dX2_likeliest_62 (by omega) (by omega) (zpk (st' := [.int (iI (scl (sgk k + 0) 0 cs))]) rfl ?_) zrx
        refine z_aload_n (pc := 65) (j := 4) C dX2_likeliest_65 rfl rfl ?_
        refine z_aload_n (pc := 66) (j := 3) C dX2_likeliest_66 rfl rfl ?_
        refine z_callV (pc := 67) (n := 1) (kc' := ((26 - k).toNat - 1)) (ks' := ((2 * (26 - k)).toNat - 2)) C (ct_S_score C.t (kh16.n hs List.not_mem_nil) (kh16.n hcq List.not_mem_nil) (kh16.n he List.not_mem_nil) (clA.keep kh16 hcl) hn hrg hm100 fh16_1 (by omega) (by omega)) (lw_V q892 q893 q894 q64 q895) (by decide +kernel) ⟨by decide, by decide⟩ (kh16.n hs List.not_mem_nil) rfl rfl rfl (Nat.le_of_ble_eq_true rfl) dX2_likeliest_67 (by omega) (by omega) (zpk (st' := [.int (iI (scl bt bm cs)), .int (iI (scl (sgk k + 0) 0 cs))]) rfl ?_) zrx
        have hr1 := scl_r (sgk k + 0) 0 cs
        have hr2 := scl_r bt bm cs
        refine z_icmp_le (pc := 70) (tgt := 78) C dX2_likeliest_70 (by decide) (by omega) (by omega) (fun c70 => ?_) (fun c70 => ?_)
        · rw [show (13 - k).toNat = (13 - (k + 1)).toNat + 1 by omega, lgi] at hd
          dsimp only at hd
          rw [if_neg (by omega)] at hd
          refine z_aload_n (pc := 78) (j := 3) C dX2_likeliest_78 rfl rfl ?_
          refine z_astore_n (pc := 79) (L' := [(1, .ref bq), (4, .ref a15), (3, .int (iI k)), (2, .int (iI 0)), (0, .ref s)]) C dX2_likeliest_79 rfl (by rw [hnL]; decide) rfl ?_
          refine z_iinc (pc := 80) (k := 2) (L' := [(3, .int (iI (k + 1))), (1, .ref bq), (4, .ref a15), (2, .int (iI 0)), (0, .ref s)]) C dX2_likeliest_80 rfl (by rw [hnL]; decide) rfl ?_
          refine z_goto (pc := 83) (tgt := 19) C dX2_likeliest_83 (by decide) ?_
          refine Z.weak (L' := [(3, .int (iI (k + 1))), (2, .int (iI 0)), (1, .ref bq), (0, .ref s)]) (kc' := (26 - (k + 1)).toNat) (ks' := (2 * (26 - (k + 1))).toNat) [0, 3, 1, 4] rfl (by omega) (by omega) ?_
          exact ih19 _ (by omega) (k + 1) h16 bq bt bm (by omega) kh16 fh16_1 (by have := hsk; omega) hd rfl
        · rw [show (13 - k).toNat = (13 - (k + 1)).toNat + 1 by omega, lgi] at hd
          dsimp only at hd
          rw [if_pos (by omega)] at hd
          refine z_aload (pc := 73) (j := 0) C dX2_likeliest_73 rfl ?_
          refine z_goto (pc := 75) (tgt := 79) C dX2_likeliest_75 (by decide) ?_
          refine z_astore_n (pc := 79) (L' := [(1, .ref a15), (4, .ref a15), (3, .int (iI k)), (2, .int (iI 0)), (0, .ref s)]) C dX2_likeliest_79 rfl (by rw [hnL]; decide) rfl ?_
          refine z_iinc (pc := 80) (k := 2) (L' := [(3, .int (iI (k + 1))), (1, .ref a15), (4, .ref a15), (2, .int (iI 0)), (0, .ref s)]) C dX2_likeliest_80 rfl (by rw [hnL]; decide) rfl ?_
          refine z_goto (pc := 83) (tgt := 19) C dX2_likeliest_83 (by decide) ?_
          refine Z.weak (L' := [(3, .int (iI (k + 1))), (2, .int (iI 0)), (1, .ref a15), (0, .ref s)]) (kc' := (26 - (k + 1)).toNat) (ks' := (2 * (26 - (k + 1))).toNat) [0, 3, 1, 4] rfl (by omega) (by omega) ?_
          exact ih19 _ (by omega) (k + 1) h16 a15 (sgk k + 0) 0 (by omega) kh16 fkk (by have := hsk; omega) hd rfl
  refine Z.weak (L' := [(3, .int (iI 0)), (2, .int (iI 0)), (1, .ref a1), (0, .ref s)]) (kc' := (26 - (0 : Int)).toNat) (ks' := (2 * (26 - (0 : Int))).toNat) [0, 1, 2, 3] rfl (by omega) (by omega) ?_
  exact loop19 _ 0 h3 a1 0 0 (by omega) kh3 fq4 (by omega) rfl rfl
set_option maxHeartbeats 4000000 in
theorem ct_S_insert {l : Launch} (hl : l.stackTraces = false) {Γ : zCx} {h : zH} {s lq cq kq e cap : Nat} {fa : Bool} {ys : List Nat} {cs : List zCh} (hs : h s = some (fa, .inr (1, [.ref lq, .ref cq, .ref kq]))) (hl0 : lAt Γ h cq e ys cap) (hy : ycs h ys cs) (hrg : ∀ c ∈ cs, crg c) (hm100 : cs.length ≤ 1000) {q : Nat} {c : zCh} (hq : cAt h q c) (rq : crg c)  : zMet l yX2_insert (ws_ yX2_insert cX2_insert 3 (some .int)) ({ frames := 6, cells := lC cap (ys.length + 1), slots := lS cap (ys.length + 1), locals := 132 }) Γ h [.ref s, .ref q] (zrt (fun w h' => w = some (.int (iI (ipl c cs))) ∧ ∃ e', lAt Γ h' cq e' (ys.take (ipl c cs).toNat ++ q :: ys.drop (ipl c cs).toNat) (lcap cap (ys.length + 1)) ∧ (e' = e ∨ h e' = none) ∧ zkeep h h' [cq, e])) (lC cap (ys.length + 1)) (lS cap (ys.length + 1)) := by
  refine zMet.of (cc := cX2_insert) hl (plainFor_of_name (by decide +kernel)) (Nat.le_of_ble_eq_true rfl) ?_
  intro X hXl hXΓ hXp C hnm hnL
  have C : zC X cX2_insert RX2 (some .int) 6 132 [] := C
  have hnL : X.2.1.2.2.2.2 = 3 := hnL
  subst hXl hXΓ
  show Z X h (lC cap (ys.length + 1)) (lS cap (ys.length + 1)) [(0, .ref s), (1, .ref q)] 0 []
  have hx := hl0
  obtain ⟨m, f, la, le, lz, lt, ln, lc, lx, lq⟩ := hx
  have hcl := hy.cl lx
  have hyl := hy.len
  refine z_iconst (pc := 0) C dX2_insert_0 ?_
  refine z_istore_n (pc := 1) (L' := [(2, .int (iI 0)), (0, .ref s), (1, .ref q)]) C dX2_insert_1 rfl (by rw [hnL]; decide) rfl ?_
  have loop2 : ∀ (n2 : Nat) (i : Int), (0 ≤ i ∧ i ≤ (cs.length : Nat)) → (i + ipl c (cs.drop i.toNat) = ipl c cs) → (((cs.length : Nat) - i).toNat) = n2 → Z X h (lC cap (ys.length + 1)) (lS cap (ys.length + 1)) [(2, .int (iI i)), (1, .ref q), (0, .ref s)] 2 [] := by
    intro n2
    induction n2 using Nat.strongRecOn with
    | ind n2 ih2 =>
    intro i hi hd hn2
    refine z_iload_n (pc := 2) (j := 0) C dX2_insert_2 rfl rfl ?_
    refine z_aload_n (pc := 3) (j := 2) C dX2_insert_3 rfl rfl ?_
    refine z_getfield (pc := 4) (v := .ref cq) C in_X2 rfl 1 (by decide) q169 (fun _ z => z) hs rfl dX2_insert_4 ?_
    refine z_callV (pc := 7) (n := 0) (kc' := (lC cap (ys.length + 1))) (ks' := (lS cap (ys.length + 1))) C (ct_L_size C.t la) (lw_V q902 q367 q368 q68 q369) (by decide +kernel) ⟨by decide, by decide⟩ la rfl rfl rfl (Nat.le_of_ble_eq_true rfl) dX2_insert_7 (by omega) (by omega) (zpk (st' := [.int (iI ((ys.length : Nat) : Int)), .int (iI i)]) rfl ?_) zrx
    refine z_icmp_ge (pc := 10) (tgt := 37) C dX2_insert_10 (by decide) (by omega) (by omega) (fun c10 => ?_) (fun c10 => ?_)
    · have hfin : i = ipl c cs := by rw [List.drop_of_length_le (by omega), ipl] at hd; omega
      subst hfin
      show Z X h (lC cap (ys.length + 1)) (lS cap (ys.length + 1)) [(2, .int (iI (ipl c cs))), (1, .ref q), (0, .ref s)] 37 []
      refine z_aload_n (pc := 37) (j := 2) C dX2_insert_37 rfl rfl ?_
      refine z_getfield (pc := 38) (v := .ref cq) C in_X2 rfl 1 (by decide) q169 (fun _ z => z) hs rfl dX2_insert_38 ?_
      refine z_iload_n (pc := 41) (j := 0) C dX2_insert_41 rfl rfl ?_
      refine z_aload_n (pc := 42) (j := 1) C dX2_insert_42 rfl rfl ?_
      refine z_callV (pc := 43) (n := 2) (kc' := (lC cap (ys.length + 1) - lC cap (ys.length + 1))) (ks' := (lS cap (ys.length + 1) - lS cap (ys.length + 1))) C (ct_L_addI C.t hl0 hq rfl q2508 (by first | omega | (simp; omega)) (i := ipl c cs) (by omega)) (lw_V q1810 q1811 q1812 q68 q1813) (by decide +kernel) ⟨by decide, by decide⟩ la rfl rfl rfl (Nat.le_of_ble_eq_true rfl) dX2_insert_43 (by omega) (by omega) (zrk fun w h1 hp => ?_) zrx
      obtain ⟨rfl, e2, hl3, he4, k5⟩ := hp
      have de2 : e2 ∈ ([cq, e] : List Nat) ∨ h e2 = none := zmayL (Or.inl (Or.inl (by simp))) hl0 hl3 (by have := lcap_ge (cap := cap) (n := ys.length + 1); omega) he4 zkeep.rf k5
      have kh1 : zkeep h h1 [cq, e] := zkeep.loc zkeep.rf k5 (zall_cons (Or.inl (Or.symm (Or.inl (by simp)))) (zall_cons (Or.inl (Or.symm (Or.inl (by simp)))) zall_nil))
      show Z X h1 (lC cap (ys.length + 1) - lC cap (ys.length + 1)) (lS cap (ys.length + 1) - lS cap (ys.length + 1)) [(2, .int (iI (ipl c cs))), (1, .ref q), (0, .ref s)] 46 []
      refine z_iload_n (pc := 46) (j := 0) C dX2_insert_46 rfl rfl ?_
      exact z_ireturn (pc := 47) C (by rw [hXp]; exact ⟨_, rfl, rfl, e2, hl3, he4, kh1⟩) dX2_insert_47
    · refine z_aload_n (pc := 13) (j := 2) C dX2_insert_13 rfl rfl ?_
      refine z_getfield (pc := 14) (v := .ref cq) C in_X2 rfl 1 (by decide) q169 (fun _ z => z) hs rfl dX2_insert_14 ?_
      refine z_iload_n (pc := 17) (j := 0) C dX2_insert_17 rfl rfl ?_
      obtain ⟨c_6, hc_6⟩ : ∃ x, cs[(i).toNat]? = some x := ⟨_, List.getElem?_eq_getElem (by omega)⟩
      obtain ⟨q_6, hq_6, ha_6⟩ := hcl _ _ hc_6
      have hr_6 := hrg _ (List.mem_of_getElem? hc_6)
      have hr1_6 := hr_6.1
      have hr2_6 := hr_6.2.1
      have hr3_6 := hr_6.2.2.1
      have hr4_6 := hr_6.2.2.2.1
      have hr5_6 := hr_6.2.2.2.2
      refine z_callV (pc := 18) (n := 1) (kc' := (lC cap (ys.length + 1))) (ks' := (lS cap (ys.length + 1))) C (ct_L_get C.t la le (i := i) (by omega) (by omega) hq_6) (lw_V q903 q904 q905 q68 q906) (by decide +kernel) ⟨by decide, by decide⟩ la rfl rfl rfl (Nat.le_of_ble_eq_true rfl) dX2_insert_18 (by omega) (by omega) (zpk (st' := [.ref q_6]) rfl ?_) zrx
      refine z_castS (pc := 21) C q915 rfl ha_6 dX2_insert_21 ?_
      refine z_aload_n (pc := 24) (j := 1) C dX2_insert_24 rfl rfl ?_
      refine z_callS (pc := 25) (n := 2) (kc' := (lC cap (ys.length + 1))) (ks' := (lS cap (ys.length + 1))) C (ct_S_bhd C.t (a := c_6) (b := c) ha_6 hr_6 hq rq) (lw_S q1807 q1808 q64 q1809) (by decide +kernel) ⟨by decide, by decide⟩ rfl rfl (Nat.le_of_ble_eq_true rfl) dX2_insert_25 (by omega) (by omega) (zpk (st' := [.int (iI (bhd c_6 c))]) rfl ?_) zrx
      have hbh : bhd c_6 c = 0 ∨ bhd c_6 c = 1 := by unfold bhd; split <;> omega
      refine z_if_ne (pc := 28) (tgt := 37) C dX2_insert_28 (by decide) (by omega) (fun c28 => ?_) (fun c28 => ?_)
      · have hfin : i = ipl c cs := by rw [drop_step hc_6 (by omega), ipl, if_pos (by omega)] at hd; omega
        subst hfin
        show Z X h (lC cap (ys.length + 1)) (lS cap (ys.length + 1)) [(2, .int (iI (ipl c cs))), (1, .ref q), (0, .ref s)] 37 []
        refine z_aload_n (pc := 37) (j := 2) C dX2_insert_37 rfl rfl ?_
        refine z_getfield (pc := 38) (v := .ref cq) C in_X2 rfl 1 (by decide) q169 (fun _ z => z) hs rfl dX2_insert_38 ?_
        refine z_iload_n (pc := 41) (j := 0) C dX2_insert_41 rfl rfl ?_
        refine z_aload_n (pc := 42) (j := 1) C dX2_insert_42 rfl rfl ?_
        refine z_callV (pc := 43) (n := 2) (kc' := (lC cap (ys.length + 1) - lC cap (ys.length + 1))) (ks' := (lS cap (ys.length + 1) - lS cap (ys.length + 1))) C (ct_L_addI C.t hl0 hq rfl q2508 (by first | omega | (simp; omega)) (i := ipl c cs) (by omega)) (lw_V q1810 q1811 q1812 q68 q1813) (by decide +kernel) ⟨by decide, by decide⟩ la rfl rfl rfl (Nat.le_of_ble_eq_true rfl) dX2_insert_43 (by omega) (by omega) (zrk fun w h7 hp => ?_) zrx
        obtain ⟨rfl, e8, hl9, he10, k11⟩ := hp
        have de8 : e8 ∈ ([cq, e] : List Nat) ∨ h e8 = none := zmayL (Or.inl (Or.inl (by simp))) hl0 hl9 (by have := lcap_ge (cap := cap) (n := ys.length + 1); omega) he10 zkeep.rf k11
        have kh7 : zkeep h h7 [cq, e] := zkeep.loc zkeep.rf k11 (zall_cons (Or.inl (Or.symm (Or.inl (by simp)))) (zall_cons (Or.inl (Or.symm (Or.inl (by simp)))) zall_nil))
        have fh7_1 : h7 q_6 = some (false, .inr (6, [.int (iI c_6.1), .int (iI c_6.2.1), .int (iI c_6.2.2.1), .int (iI c_6.2.2.2.1), .int (iI c_6.2.2.2.2)])) := k11.f ha_6
        show Z X h7 (lC cap (ys.length + 1) - lC cap (ys.length + 1)) (lS cap (ys.length + 1) - lS cap (ys.length + 1)) [(2, .int (iI (ipl c cs))), (1, .ref q), (0, .ref s)] 46 []
        refine z_iload_n (pc := 46) (j := 0) C dX2_insert_46 rfl rfl ?_
        exact z_ireturn (pc := 47) C (by rw [hXp]; exact ⟨_, rfl, rfl, e8, hl9, he10, kh7⟩) dX2_insert_47
      · refine z_iinc (pc := 31) (k := 0) (L' := [(2, .int (iI (i + 1))), (1, .ref q), (0, .ref s)]) C dX2_insert_31 rfl (by rw [hnL]; decide) rfl ?_
        refine z_goto (pc := 34) (tgt := 2) C dX2_insert_34 (by decide) ?_
        refine Z.weak (L' := [(2, .int (iI (i + 1))), (1, .ref q), (0, .ref s)]) (kc' := lC cap (ys.length + 1)) (ks' := lS cap (ys.length + 1)) [0, 1, 2] rfl (by omega) (by omega) ?_
        exact ih2 _ (by omega) (i + 1) (by omega) (by rw [drop_step hc_6 (by omega), ipl, if_neg (by omega)] at hd; omega) rfl
  refine Z.weak (L' := [(2, .int (iI 0)), (1, .ref q), (0, .ref s)]) (kc' := lC cap (ys.length + 1)) (ks' := lS cap (ys.length + 1)) [0, 2, 1] rfl (by omega) (by omega) ?_
  exact loop2 _ 0 (by omega) (by simp) rfl
set_option maxHeartbeats 4000000 in
theorem ct_S_copied {l : Launch} (hl : l.stackTraces = false) {Γ : zCx} {h : zH} {s lq cq kq le lcp e cap : Nat} {fa fb fc : Bool} {f lf : Nat → Value} {mm mm2 : Int} {lys ys : List Nat} {ls : List (List Int)} {cs : List zCh} (hs : h s = some (fa, .inr (1, [.ref lq, .ref cq, .ref kq]))) (hlq : h lq = some (false, .inr (10, [.int (iI mm2), .ref le, .int (iI ((lys.length : Nat) : Int))]))) (hle : h le = some (false, .inl (.object "java/lang/Object", lcp, lf))) (hln : lys.length ≤ lcp ∧ lcp ≤ 100000) (hlx : ∀ (j q : Nat), lys[j]? = some q → lf j = .ref q) (hls : sls h lys ls) (hl300 : lys.length ≤ 1000) (hcq : h cq = some (fb, .inr (10, [.int (iI mm), .ref e, .int (iI ((ys.length : Nat) : Int))]))) (he : h e = some (fc, .inl (.object "java/lang/Object", cap, f))) (hn : ys.length ≤ cap ∧ cap ≤ 100000) (hx : ∀ (j q : Nat), ys[j]? = some q → f j = .ref q) (hy : ycs h ys cs) (hm100 : ys.length ≤ 1000)  : zMet l yX2_copied (ws_ yX2_copied cX2_copied 3 (some (.object "ChordSheet$Sheet"))) ({ frames := 7, cells := (3 + bLC 0 lys.length + bLC 0 ys.length), slots := (9 + bLS 0 lys.length + bLS 0 ys.length), locals := 152 }) Γ h [.ref s] (zrt (fun w h' => ∃ s' lq' cq' e' cap', w = some (.ref s') ∧ h' s' = some (true, .inr (1, [.ref lq', .ref cq', .ref kq])) ∧ flAt h' lq' lys ∧ lAt Γ h' cq' e' ys cap' ∧ h s' = none ∧ h cq' = none ∧ (h e' = none ∨ cap' = 0) ∧ zkeep h h' [])) (3 + bLC 0 lys.length + bLC 0 ys.length) (9 + bLS 0 lys.length + bLS 0 ys.length) := by
  refine zMet.of (cc := cX2_copied) hl (plainFor_of_name (by decide +kernel)) (Nat.le_of_ble_eq_true rfl) ?_
  intro X hXl hXΓ hXp C hnm hnL
  have C : zC X cX2_copied RX2 (some (.object "ChordSheet$Sheet")) 7 152 [] := C
  have hnL : X.2.1.2.2.2.2 = 3 := hnL
  subst hXl hXΓ
  show Z X h (3 + bLC 0 lys.length + bLC 0 ys.length) (9 + bLS 0 lys.length + bLS 0 ys.length) [(0, .ref s)] 0 []
  have hyl := hy.len
  have hll := hls.len
  refine z_new (pc := 0) (ci := 1) (kc' := ((3 + bLC 0 lys.length + bLC 0 ys.length) - 1)) (ks' := ((9 + bLS 0 lys.length + bLS 0 ys.length) - 3)) (fs := [.null, .null, .null]) C in_X2 tyX2 tyX2_ok rfl q960 q116 q64 df_X2 (by omega) (by omega) dX2_copied_0 (fun a1 fa1 => ?_)
  refine Z.nm (fun h2 eh2 => ?_)
  have na1 : h a1 = none := fa1
  have kh2 : zkeep h h2 [] := by rw [eh2]; exact zkeep.born zkeep.rf fa1
  have fh2_0 : h2 a1 = some (true, .inr (1, [.null, .null, .null])) := zse eh2
  refine z_dup (pc := 3) C dX2_copied_3 rfl ?_
  refine z_aload_n (pc := 4) (j := 0) C dX2_copied_4 rfl rfl ?_
  refine z_getfield (pc := 5) (v := .ref kq) C in_X2 rfl 2 (by decide) q173 (fun _ z => z) (kh2.n hs List.not_mem_nil) rfl dX2_copied_5 ?_
  refine z_callI (pc := 8) (n := 1) (kc' := (((3 + bLC 0 lys.length + bLC 0 ys.length) - 1) - 2)) (ks' := (((9 + bLS 0 lys.length + bLS 0 ys.length) - 3) - 6)) C (ct_S_init C.t fh2_0 (kq := kq)) q137 q64 q961 q136 rfl (by decide +kernel) ⟨by decide, by decide⟩ rfl rfl (Nat.le_of_ble_eq_true rfl) dX2_copied_8 (by omega) (by omega) (zrk fun w h3 hp => ?_) zrx
  obtain ⟨rfl, lq_5, cq_5, fs6, hllq_5, hlcq_5, flq_5, fcq_5, hne_5, k4⟩ := hp
  have nlq_5 : h lq_5 = none := kh2.none0 flq_5 List.not_mem_nil
  have ncq_5 : h cq_5 = none := kh2.none0 fcq_5 List.not_mem_nil
  have kh3 : zkeep h h3 [] := zkeep.loc kh2 k4 (zall_cons (Or.inl (Or.symm (Or.inr na1))) zall_nil)
  have hx_7 := hllq_5
  obtain ⟨m_7, f_7, la_7, le_7, lz_7, lt_7, ln_7, lc_7, lx_7, lq_7⟩ := hx_7
  have le_7 : h3 (X.Γ.2.2.2 0) = some (false, .inl (.object "java/lang/Object", 0, f_7)) := le_7
  have hx_8 := hlcq_5
  obtain ⟨m_8, f_8, la_8, le_8, lz_8, lt_8, ln_8, lc_8, lx_8, lq_8⟩ := hx_8
  have le_8 : h3 (X.Γ.2.2.2 0) = some (false, .inl (.object "java/lang/Object", 0, f_8)) := le_8
  show Z X h3 (((3 + bLC 0 lys.length + bLC 0 ys.length) - 1) - 2) (((9 + bLS 0 lys.length + bLS 0 ys.length) - 3) - 6) [(0, .ref s)] 11 [.ref a1]
  refine z_astore_n (pc := 11) (L' := [(1, .ref a1), (0, .ref s)]) C dX2_copied_11 rfl (by rw [hnL]; decide) rfl ?_
  refine z_iconst (pc := 12) C dX2_copied_12 ?_
  refine z_istore_n (pc := 13) (L' := [(2, .int (iI 0)), (1, .ref a1), (0, .ref s)]) C dX2_copied_13 rfl (by rw [hnL]; decide) rfl ?_
  have loop14 : ∀ (n14 : Nat) (i : Int) (g1 : zH) (u1 : Nat) (cap1 : Nat), (0 ≤ i ∧ i ≤ (lys.length : Nat)) → (zkeep h g1 []) → (g1 a1 = some (true, .inr (1, [.ref lq_5, .ref cq_5, .ref kq]))) → (lAt X.Γ g1 lq_5 u1 (lys.take i.toNat) cap1) → (lAt X.Γ g1 cq_5 (X.Γ.2.2.2 0) [] 0) → ((u1 ∈ ([] : List Nat) ∨ h u1 = none) ∨ cap1 = 0) → (((lys.length : Nat) - i).toNat) = n14 → Z X g1 (bLC cap1 lys.length + bLC 0 ys.length) (bLS cap1 lys.length + bLS 0 ys.length) [(2, .int (iI i)), (1, .ref a1), (0, .ref s)] 14 [] := by
    intro n14
    induction n14 using Nat.strongRecOn with
    | ind n14 ih14 =>
    intro i g1 u1 cap1 hi hkp hs1 hla hlb hm hn14
    have hx_9 := hla
    obtain ⟨m_9, f_9, la_9, le_9, lz_9, lt_9, ln_9, lc_9, lx_9, lq_9⟩ := hx_9
    have hx_10 := hlb
    obtain ⟨m_10, f_10, la_10, le_10, lz_10, lt_10, ln_10, lc_10, lx_10, lq_10⟩ := hx_10
    have le_10 : g1 (X.Γ.2.2.2 0) = some (false, .inl (.object "java/lang/Object", 0, f_10)) := le_10
    refine z_iload_n (pc := 14) (j := 0) C dX2_copied_14 rfl rfl ?_
    refine z_aload_n (pc := 15) (j := 2) C dX2_copied_15 rfl rfl ?_
    refine z_getfield (pc := 16) (v := .ref lq) C in_X2 rfl 0 (by decide) q165 (fun _ z => z) (hkp.n hs List.not_mem_nil) rfl dX2_copied_16 ?_
    refine z_callV (pc := 19) (n := 0) (kc' := (bLC cap1 lys.length + bLC 0 ys.length)) (ks' := (bLS cap1 lys.length + bLS 0 ys.length)) C (ct_L_size C.t (hkp.f hlq)) (lw_V q902 q367 q368 q68 q369) (by decide +kernel) ⟨by decide, by decide⟩ (hkp.f hlq) rfl rfl rfl (Nat.le_of_ble_eq_true rfl) dX2_copied_19 (by omega) (by omega) (zpk (st' := [.int (iI ((lys.length : Nat) : Int)), .int (iI i)]) rfl ?_) zrx
    refine z_icmp_ge (pc := 22) (tgt := 50) C dX2_copied_22 (by decide) (by omega) (by omega) (fun c22 => ?_) (fun c22 => ?_)
    · have hla1 : lAt X.Γ g1 lq_5 u1 lys cap1 := by rw [List.take_of_length_le (show lys.length ≤ i.toNat by omega)] at hla; exact hla
      refine Z.freezeL hla1 (fun h11 hfl k12 => ?_)
      have kh11 : zkeep h h11 [] := zkeep.loc hkp k12 (zall_cons (Or.inl (Or.symm (Or.inr nlq_5))) (zall_cons (lAt.fz hla1 hm) zall_nil))
      have fh11_1 : h11 a1 = some (true, .inr (1, [.ref lq_5, .ref cq_5, .ref kq])) := k12.n hs1 (List.not_mem_cons_of_ne_of_not_mem (zneC hs1 la_9 (by decide)) (List.not_mem_cons_of_ne_of_not_mem (zneA hs1 le_9) List.not_mem_nil))
      have fh11_2 : h11 cq_5 = some (true, .inr (10, [.int (iI m_10), .ref (X.Γ.2.2.2 0), .int (iI ((([] : List Nat).length : Nat) : Int))])) := k12.n la_10 (List.not_mem_cons_of_ne_of_not_mem (Ne.symm hne_5) (List.not_mem_cons_of_ne_of_not_mem (zneA la_10 le_9) List.not_mem_nil))
      have fh11_3 : h11 (X.Γ.2.2.2 0) = some (false, .inl ((.object "java/lang/Object"), 0, f_10)) := k12.f le_10
      have ph11_1 : ∀ q ∈ ([] : List Nat), zel h11 q := zels.keep k12 lq_10
      show Z X h11 (bLC cap1 lys.length + bLC 0 ys.length) (bLS cap1 lys.length + bLS 0 ys.length) [(2, .int (iI i)), (1, .ref a1), (0, .ref s)] 50 []
      refine z_iconst (pc := 50) C dX2_copied_50 ?_
      refine z_istore_n (pc := 51) (L' := [(2, .int (iI 0)), (1, .ref a1), (0, .ref s)]) C dX2_copied_51 rfl (by rw [hnL]; decide) rfl ?_
      have loop52 : ∀ (n52 : Nat) (i : Int) (g2 : zH) (u2 : Nat) (cap2 : Nat), (0 ≤ i ∧ i ≤ (ys.length : Nat)) → (zkeep h g2 []) → (g2 a1 = some (true, .inr (1, [.ref lq_5, .ref cq_5, .ref kq]))) → (lAt X.Γ g2 cq_5 u2 (ys.take i.toNat) cap2) → (flAt g2 lq_5 lys) → ((u2 ∈ ([] : List Nat) ∨ h u2 = none) ∨ cap2 = 0) → (((ys.length : Nat) - i).toNat) = n52 → Z X g2 (bLC cap2 ys.length) (bLS cap2 ys.length) [(2, .int (iI i)), (1, .ref a1), (0, .ref s)] 52 [] := by
        intro n52
        induction n52 using Nat.strongRecOn with
        | ind n52 ih52 =>
        intro i g2 u2 cap2 hi hkp hs1 hla hlb hm hn52
        have hx_13 := hla
        obtain ⟨m_13, f_13, la_13, le_13, lz_13, lt_13, ln_13, lc_13, lx_13, lq_13⟩ := hx_13
        refine z_iload_n (pc := 52) (j := 0) C dX2_copied_52 rfl rfl ?_
        refine z_aload_n (pc := 53) (j := 2) C dX2_copied_53 rfl rfl ?_
        refine z_getfield (pc := 54) (v := .ref cq) C in_X2 rfl 1 (by decide) q169 (fun _ z => z) (hkp.n hs List.not_mem_nil) rfl dX2_copied_54 ?_
        refine z_callV (pc := 57) (n := 0) (kc' := (bLC cap2 ys.length)) (ks' := (bLS cap2 ys.length)) C (ct_L_size C.t (hkp.n hcq List.not_mem_nil)) (lw_V q902 q367 q368 q68 q369) (by decide +kernel) ⟨by decide, by decide⟩ (hkp.n hcq List.not_mem_nil) rfl rfl rfl (Nat.le_of_ble_eq_true rfl) dX2_copied_57 (by omega) (by omega) (zpk (st' := [.int (iI ((ys.length : Nat) : Int)), .int (iI i)]) rfl ?_) zrx
        refine z_icmp_ge (pc := 60) (tgt := 88) C dX2_copied_60 (by decide) (by omega) (by omega) (fun c60 => ?_) (fun c60 => ?_)
        · refine z_aload_n (pc := 88) (j := 1) C dX2_copied_88 rfl rfl ?_
          exact z_areturn (pc := 89) C (Or.inl ⟨_, rfl⟩) (Or.inr ⟨_, rfl⟩) (by rw [hXp]; exact ⟨_, rfl, a1, lq_5, cq_5, u2, cap2, rfl, hs1, hlb, (by rw [List.take_of_length_le (show ys.length ≤ i.toNat by omega)] at hla; exact hla), na1, ncq_5, (by rcases hm with (z | z) | z; exact absurd z List.not_mem_nil; exact Or.inl z; exact Or.inr z), hkp⟩) dX2_copied_89
        · refine z_aload_n (pc := 63) (j := 1) C dX2_copied_63 rfl rfl ?_
          refine z_getfield (pc := 64) (v := .ref cq_5) C in_X2 rfl 1 (by decide) q169 (fun _ z => z) hs1 rfl dX2_copied_64 ?_
          refine z_aload_n (pc := 67) (j := 2) C dX2_copied_67 rfl rfl ?_
          refine z_getfield (pc := 68) (v := .ref cq) C in_X2 rfl 1 (by decide) q169 (fun _ z => z) (hkp.n hs List.not_mem_nil) rfl dX2_copied_68 ?_
          refine z_iload_n (pc := 71) (j := 0) C dX2_copied_71 rfl rfl ?_
          obtain ⟨c_14, hc_14⟩ : ∃ x, cs[(i).toNat]? = some x := ⟨_, List.getElem?_eq_getElem (by omega)⟩
          obtain ⟨q_14, hq_14, ha_14⟩ := ((ycs.keep hkp hy)).at hc_14
          refine z_callV (pc := 72) (n := 1) (kc' := (bLC cap2 ys.length)) (ks' := (bLS cap2 ys.length)) C (ct_L_get C.t (hkp.n hcq List.not_mem_nil) (hkp.n he List.not_mem_nil) (i := i) (by omega) (by omega) (hx _ _ hq_14)) (lw_V q903 q904 q905 q68 q906) (by decide +kernel) ⟨by decide, by decide⟩ (hkp.n hcq List.not_mem_nil) rfl rfl rfl (Nat.le_of_ble_eq_true rfl) dX2_copied_72 (by omega) (by omega) (zpk (st' := [.ref q_14, .ref cq_5]) rfl ?_) zrx
          refine z_castS (pc := 75) C q915 rfl ha_14 dX2_copied_75 ?_
          have hB := lC_b (cap := cap2) (n := (ys.take i.toNat).length + 1) (N := ys.length) (by simp; omega) lt_13
          have hB2 := lS_b (cap := cap2) (n := (ys.take i.toNat).length + 1) (N := ys.length) (by simp; omega) lt_13
          refine z_callV (pc := 78) (n := 1) (kc' := (bLC cap2 ys.length - lC cap2 ((ys.take i.toNat).length + 1))) (ks' := (bLS cap2 ys.length - lS cap2 ((ys.take i.toNat).length + 1))) C (ct_L_add C.t hla ha_14 rfl q2508 (by first | omega | (simp; omega))) (lw_V q963 q204 q205 q68 q206) (by decide +kernel) ⟨by decide, by decide⟩ la_13 rfl rfl rfl (Nat.le_of_ble_eq_true rfl) dX2_copied_78 (by omega) (by omega) (zrk fun w h15 hp => ?_) zrx
          obtain ⟨rfl, e16, hl17, he18, k19⟩ := hp
          have de16 : e16 ∈ ([] : List Nat) ∨ h e16 = none := zmayL hm hla hl17 (by have := lcap_ge (cap := cap2) (n := (ys.take i.toNat).length + 1); omega) he18 hkp k19
          have ge16 : e16 = u2 ∨ h e16 = none := he18.imp_right (fun z => hkp.none0 z List.not_mem_nil)
          have kh15 : zkeep h h15 [] := zkeep.loc hkp k19 (zall_cons (Or.inl (Or.symm (Or.inr ncq_5))) (zall_cons (lAt.fz hla hm) zall_nil))
          have fh15_1 : h15 a1 = some (true, .inr (1, [.ref lq_5, .ref cq_5, .ref kq])) := k19.n hs1 (List.not_mem_cons_of_ne_of_not_mem (zneC hs1 la_13 (by decide)) (List.not_mem_cons_of_ne_of_not_mem (zneA hs1 le_13) List.not_mem_nil))
          have fh15_2 : h15 q_14 = some (false, .inr (6, [.int (iI c_14.1), .int (iI c_14.2.1), .int (iI c_14.2.2.1), .int (iI c_14.2.2.2.1), .int (iI c_14.2.2.2.2)])) := k19.f ha_14
          have ph15_1 : ∀ q ∈ ys.take i.toNat, zel h15 q := zels.keep k19 lq_13
          have ph15_2 : flAt h15 lq_5 lys := flAt.keep k19 hlb
          show Z X h15 (bLC cap2 ys.length - lC cap2 ((ys.take i.toNat).length + 1)) (bLS cap2 ys.length - lS cap2 ((ys.take i.toNat).length + 1)) [(2, .int (iI i)), (1, .ref a1), (0, .ref s)] 81 [.int (iI 1)]
          refine z_pop (pc := 81) C dX2_copied_81 rfl ?_
          refine z_iinc (pc := 82) (k := 0) (L' := [(2, .int (iI (i + 1))), (1, .ref a1), (0, .ref s)]) C dX2_copied_82 rfl (by rw [hnL]; decide) rfl ?_
          refine z_goto (pc := 85) (tgt := 52) C dX2_copied_85 (by decide) ?_
          refine Z.weak (L' := [(2, .int (iI (i + 1))), (1, .ref a1), (0, .ref s)]) (kc' := bLC (lcap cap2 ((ys.take i.toNat).length + 1)) ys.length) (ks' := bLS (lcap cap2 ((ys.take i.toNat).length + 1)) ys.length) [0, 1, 2] rfl (by omega) (by omega) ?_
          exact ih52 _ (by omega) (i + 1) h15 e16 (lcap cap2 ((ys.take i.toNat).length + 1)) (by omega) kh15 fh15_1 ((take_step hq_14 (by omega)) ▸ hl17) ph15_2 (Or.inl de16) rfl
      refine Z.weak (L' := [(2, .int (iI 0)), (1, .ref a1), (0, .ref s)]) (kc' := bLC 0 ys.length) (ks' := bLS 0 ys.length) [0, 1, 2] rfl (by omega) (by omega) ?_
      exact loop52 _ 0 h11 (X.Γ.2.2.2 0) 0 (by omega) kh11 fh11_1 (by simpa using (lAt.mk (cap := 0) rfl rfl rfl fh11_2 fh11_3 lz_10 lt_10 ln_10 lc_10 (fun j q e => by simp at e) ph11_1)) hfl (Or.inr rfl) rfl
    · refine z_aload_n (pc := 25) (j := 1) C dX2_copied_25 rfl rfl ?_
      refine z_getfield (pc := 26) (v := .ref lq_5) C in_X2 rfl 0 (by decide) q165 (fun _ z => z) hs1 rfl dX2_copied_26 ?_
      refine z_aload_n (pc := 29) (j := 2) C dX2_copied_29 rfl rfl ?_
      refine z_getfield (pc := 30) (v := .ref lq) C in_X2 rfl 0 (by decide) q165 (fun _ z => z) (hkp.n hs List.not_mem_nil) rfl dX2_copied_30 ?_
      refine z_iload_n (pc := 33) (j := 0) C dX2_copied_33 rfl rfl ?_
      obtain ⟨t_20, ht_20⟩ : ∃ x, ls[(i).toNat]? = some x := ⟨_, List.getElem?_eq_getElem (by omega)⟩
      obtain ⟨q_20, hq_20, ha_20⟩ := ((sls.keep hkp hls)).at ht_20
      obtain ⟨hl_21, v_21, x_21, y_21, g_21, h1_21, h2_21, h3_21, h4_21⟩ := id (ha_20)
      have h1_21 : g1 (q_20) = some (false, .inr (13, [.ref v_21, .int (iI 0), .int x_21, .int y_21])) := h1_21
      refine z_callV (pc := 34) (n := 1) (kc' := (bLC cap1 lys.length + bLC 0 ys.length)) (ks' := (bLS cap1 lys.length + bLS 0 ys.length)) C (ct_L_get C.t (hkp.f hlq) (hkp.f hle) (i := i) (by omega) (by omega) (hlx _ _ hq_20)) (lw_V q903 q904 q905 q68 q906) (by decide +kernel) ⟨by decide, by decide⟩ (hkp.f hlq) rfl rfl rfl (Nat.le_of_ble_eq_true rfl) dX2_copied_34 (by omega) (by omega) (zpk (st' := [.ref q_20, .ref lq_5]) rfl ?_) zrx
      refine z_castS (pc := 37) C q962 rfl h1_21 dX2_copied_37 ?_
      have hB := lC_b (cap := cap1) (n := (lys.take i.toNat).length + 1) (N := lys.length) (by simp; omega) lt_9
      have hB2 := lS_b (cap := cap1) (n := (lys.take i.toNat).length + 1) (N := lys.length) (by simp; omega) lt_9
      refine z_callV (pc := 40) (n := 1) (kc' := ((bLC cap1 lys.length + bLC 0 ys.length) - lC cap1 ((lys.take i.toNat).length + 1))) (ks' := ((bLS cap1 lys.length + bLS 0 ys.length) - lS cap1 ((lys.take i.toNat).length + 1))) C (ct_L_add C.t hla h1_21 rfl q2509 (by first | omega | (simp; omega))) (lw_V q963 q204 q205 q68 q206) (by decide +kernel) ⟨by decide, by decide⟩ la_9 rfl rfl rfl (Nat.le_of_ble_eq_true rfl) dX2_copied_40 (by omega) (by omega) (zrk fun w h22 hp => ?_) zrx
      obtain ⟨rfl, e23, hl24, he25, k26⟩ := hp
      have de23 : e23 ∈ ([] : List Nat) ∨ h e23 = none := zmayL hm hla hl24 (by have := lcap_ge (cap := cap1) (n := (lys.take i.toNat).length + 1); omega) he25 hkp k26
      have ge23 : e23 = u1 ∨ h e23 = none := he25.imp_right (fun z => hkp.none0 z List.not_mem_nil)
      have kh22 : zkeep h h22 [] := zkeep.loc hkp k26 (zall_cons (Or.inl (Or.symm (Or.inr nlq_5))) (zall_cons (lAt.fz hla hm) zall_nil))
      have fh22_1 : h22 a1 = some (true, .inr (1, [.ref lq_5, .ref cq_5, .ref kq])) := k26.n hs1 (List.not_mem_cons_of_ne_of_not_mem (zneC hs1 la_9 (by decide)) (List.not_mem_cons_of_ne_of_not_mem (zneA hs1 le_9) List.not_mem_nil))
      have fh22_2 : h22 cq_5 = some (true, .inr (10, [.int (iI m_10), .ref (X.Γ.2.2.2 0), .int (iI ((([] : List Nat).length : Nat) : Int))])) := k26.n la_10 (List.not_mem_cons_of_ne_of_not_mem (Ne.symm hne_5) (List.not_mem_cons_of_ne_of_not_mem (zneA la_10 le_9) List.not_mem_nil))
      have fh22_3 : h22 (X.Γ.2.2.2 0) = some (false, .inl ((.object "java/lang/Object"), 0, f_10)) := k26.f le_10
      have fh22_4 : h22 q_20 = some (false, .inr (13, [.ref v_21, .int (iI 0), .int x_21, .int y_21])) := k26.f h1_21
      have fh22_5 : h22 v_21 = some (false, .inl (.byte, t_20.length, g_21)) := k26.f h2_21
      have ph22_1 : ∀ q ∈ lys.take i.toNat, zel h22 q := zels.keep k26 lq_9
      have ph22_2 : ∀ q ∈ ([] : List Nat), zel h22 q := zels.keep k26 lq_10
      have ph22_3 : sAt h22 q_20 t_20 := sAt.keep k26 ha_20
      show Z X h22 ((bLC cap1 lys.length + bLC 0 ys.length) - lC cap1 ((lys.take i.toNat).length + 1)) ((bLS cap1 lys.length + bLS 0 ys.length) - lS cap1 ((lys.take i.toNat).length + 1)) [(2, .int (iI i)), (1, .ref a1), (0, .ref s)] 43 [.int (iI 1)]
      refine z_pop (pc := 43) C dX2_copied_43 rfl ?_
      refine z_iinc (pc := 44) (k := 0) (L' := [(2, .int (iI (i + 1))), (1, .ref a1), (0, .ref s)]) C dX2_copied_44 rfl (by rw [hnL]; decide) rfl ?_
      refine z_goto (pc := 47) (tgt := 14) C dX2_copied_47 (by decide) ?_
      refine Z.weak (L' := [(2, .int (iI (i + 1))), (1, .ref a1), (0, .ref s)]) (kc' := (bLC (lcap cap1 ((lys.take i.toNat).length + 1)) lys.length + bLC 0 ys.length)) (ks' := (bLS (lcap cap1 ((lys.take i.toNat).length + 1)) lys.length + bLS 0 ys.length)) [0, 1, 2] rfl (by omega) (by omega) ?_
      exact ih14 _ (by omega) (i + 1) h22 e23 (lcap cap1 ((lys.take i.toNat).length + 1)) (by omega) kh22 fh22_1 ((take_step hq_20 (by omega)) ▸ hl24) (lAt.mk (cap := 0) rfl rfl rfl fh22_2 fh22_3 lz_10 lt_10 ln_10 lc_10 (fun j q e => by simp at e) ph22_2) (Or.inl de23) rfl
  refine Z.weak (L' := [(2, .int (iI 0)), (1, .ref a1), (0, .ref s)]) (kc' := (bLC 0 lys.length + bLC 0 ys.length)) (ks' := (bLS 0 lys.length + bLS 0 ys.length)) [0, 1, 2] rfl (by omega) (by omega) ?_
  exact loop14 _ 0 h3 (X.Γ.2.2.2 0) 0 (by omega) kh3 fs6 (by simpa using hllq_5) hlcq_5 (Or.inr rfl) rfl

/-! 35.pairs.lean.txt -/
set_option maxRecDepth 100000
abbrev cX1_rows : ByteArray := prog_1_method_56_code
def yX1_rows : MethodName := ⟨RX1, "rows", "(III)LChordSheet$Rows;"⟩
def dkwX1_rows_2 : List UInt8 := [182, 1, 59, 25, 4, 176]
abbrev dktX1_rows_2 : List UInt8 := dkwX1_rows_2 ++ []
def dkwX1_rows_1 : List UInt8 := [182, 1, 56, 132, 5, 1, 167, 255, 240, 29, 25, 4, 180, 1, 76, 182, 0, 77, 160, 0, 9, 25, 4, 29]
abbrev dktX1_rows_1 : List UInt8 := dkwX1_rows_1 ++ dktX1_rows_2
def dkwX1_rows_0 : List UInt8 := [187, 1, 51, 89, 42, 27, 183, 1, 53, 58, 4, 28, 54, 5, 21, 5, 29, 162, 0, 16, 25, 4, 21, 5]
abbrev dktX1_rows_0 : List UInt8 := dkwX1_rows_0 ++ dktX1_rows_1
theorem dksX1_rows_0 : cX1_rows.data.toList.drop 0 = dktX1_rows_0 := by decide +kernel
theorem dksX1_rows_1 : cX1_rows.data.toList.drop 24 = dktX1_rows_1 := dk_seg dksX1_rows_0 24 rfl rfl
theorem dksX1_rows_2 : cX1_rows.data.toList.drop 48 = dktX1_rows_2 := dk_seg dksX1_rows_1 24 rfl rfl
abbrev cX1_pairs : ByteArray := prog_1_method_57_code
def yX1_pairs : MethodName := ⟨RX1, "pairs", "(I)I"⟩
def dkwX1_pairs_1 : List UInt8 := [162, 0, 18, 132, 3, 1, 42, 27, 21, 4, 182, 1, 69, 54, 4, 167, 255, 238, 29, 172]
abbrev dktX1_pairs_1 : List UInt8 := dkwX1_pairs_1 ++ []
def dkwX1_pairs_0 : List UInt8 := [42, 27, 182, 0, 184, 182, 0, 77, 61, 4, 62, 42, 27, 3, 182, 1, 69, 54, 4, 21, 4, 28]
abbrev dktX1_pairs_0 : List UInt8 := dkwX1_pairs_0 ++ dktX1_pairs_1
theorem dksX1_pairs_0 : cX1_pairs.data.toList.drop 0 = dktX1_pairs_0 := by decide +kernel
theorem dksX1_pairs_1 : cX1_pairs.data.toList.drop 22 = dktX1_pairs_1 := dk_seg dksX1_pairs_0 22 rfl rfl
abbrev cX1_pair : ByteArray := prog_1_method_55_code
def yX1_pair : MethodName := ⟨RX1, "pair", "(II)LChordSheet$Rows;"⟩
def dkwX1_pair_4 : List UInt8 := [167, 0, 4, 1, 176]
abbrev dktX1_pair_4 : List UInt8 := dkwX1_pair_4 ++ []
def dkwX1_pair_3 : List UInt8 := [182, 1, 72, 176, 132, 6, 1, 167, 255, 210, 28, 154, 0, 15, 42, 27, 21, 4, 21, 5, 182, 1, 72]
abbrev dktX1_pair_3 : List UInt8 := dkwX1_pair_3 ++ dktX1_pair_4
def dkwX1_pair_2 : List UInt8 := [42, 27, 21, 4, 182, 1, 69, 54, 5, 21, 6, 4, 96, 28, 160, 0, 13, 42, 27, 21, 4, 21, 5]
abbrev dktX1_pair_2 : List UInt8 := dkwX1_pair_2 ++ dktX1_pair_3
def dkwX1_pair_1 : List UInt8 := [182, 1, 69, 54, 5, 3, 54, 6, 21, 6, 28, 162, 0, 46, 21, 5, 29, 162, 0, 40, 21, 5, 54, 4]
abbrev dktX1_pair_1 : List UInt8 := dkwX1_pair_1 ++ dktX1_pair_2
def dkwX1_pair_0 : List UInt8 := [42, 180, 0, 31, 180, 0, 44, 27, 182, 0, 180, 192, 0, 78, 182, 0, 77, 62, 3, 54, 4, 42, 27, 3]
abbrev dktX1_pair_0 : List UInt8 := dkwX1_pair_0 ++ dktX1_pair_1
theorem dksX1_pair_0 : cX1_pair.data.toList.drop 0 = dktX1_pair_0 := by decide +kernel
theorem dksX1_pair_1 : cX1_pair.data.toList.drop 24 = dktX1_pair_1 := dk_seg dksX1_pair_0 24 rfl rfl
theorem dksX1_pair_2 : cX1_pair.data.toList.drop 48 = dktX1_pair_2 := dk_seg dksX1_pair_1 24 rfl rfl
theorem dksX1_pair_3 : cX1_pair.data.toList.drop 71 = dktX1_pair_3 := dk_seg dksX1_pair_2 23 rfl rfl
theorem dksX1_pair_4 : cX1_pair.data.toList.drop 94 = dktX1_pair_4 := dk_seg dksX1_pair_3 23 rfl rfl
abbrev cX1_row : ByteArray := prog_1_method_58_code
def yX1_row : MethodName := ⟨RX1, "row", "(III)Ljava/lang/StringBuilder;"⟩
def dkwX1_row_2 : List UInt8 := [184, 0, 176, 29, 154, 0, 11, 25, 4, 180, 1, 84, 167, 0, 8, 25, 4, 180, 1, 88, 176]
abbrev dktX1_row_2 : List UInt8 := dkwX1_row_2 ++ []
def dkwX1_row_1 : List UInt8 := [183, 0, 62, 191, 42, 27, 28, 182, 1, 80, 58, 4, 29, 25, 4, 199, 0, 7, 3, 167, 0, 4, 5]
abbrev dktX1_row_1 : List UInt8 := dkwX1_row_1 ++ dktX1_row_2
def dkwX1_row_0 : List UInt8 := [27, 42, 180, 0, 31, 180, 0, 44, 182, 0, 168, 184, 0, 176, 28, 156, 0, 11, 187, 0, 60, 89]
abbrev dktX1_row_0 : List UInt8 := dkwX1_row_0 ++ dktX1_row_1
theorem dksX1_row_0 : cX1_row.data.toList.drop 0 = dktX1_row_0 := by decide +kernel
theorem dksX1_row_1 : cX1_row.data.toList.drop 22 = dktX1_row_1 := dk_seg dksX1_row_0 22 rfl rfl
theorem dksX1_row_2 : cX1_row.data.toList.drop 45 = dktX1_row_2 := dk_seg dksX1_row_1 23 rfl rfl
abbrev cX1_rowLength : ByteArray := prog_1_method_59_code
def yX1_rowLength : MethodName := ⟨RX1, "rowLength", "(III)I"⟩
def dkwX1_rowLength_0 : List UInt8 := [42, 27, 28, 29, 182, 1, 91, 182, 1, 95, 172]
abbrev dktX1_rowLength_0 : List UInt8 := dkwX1_rowLength_0 ++ []
theorem dksX1_rowLength_0 : cX1_rowLength.data.toList.drop 0 = dktX1_rowLength_0 := by decide +kernel
abbrev cX1_rowChar : ByteArray := prog_1_method_60_code
def yX1_rowChar : MethodName := ⟨RX1, "rowChar", "(IIII)I"⟩
def dkwX1_rowChar_1 : List UInt8 := [25, 5, 182, 1, 95, 162, 0, 13, 25, 5, 21, 4, 182, 1, 96, 167, 0, 4, 2, 172]
abbrev dktX1_rowChar_1 : List UInt8 := dkwX1_rowChar_1 ++ []
def dkwX1_rowChar_0 : List UInt8 := [42, 27, 28, 29, 182, 1, 91, 58, 5, 21, 4, 156, 0, 11, 187, 0, 60, 89, 183, 0, 62, 191, 21, 4]
abbrev dktX1_rowChar_0 : List UInt8 := dkwX1_rowChar_0 ++ dktX1_rowChar_1
theorem dksX1_rowChar_0 : cX1_rowChar.data.toList.drop 0 = dktX1_rowChar_0 := by decide +kernel
theorem dksX1_rowChar_1 : cX1_rowChar.data.toList.drop 24 = dktX1_rowChar_1 := dk_seg dksX1_rowChar_0 24 rfl rfl
theorem dX1_rows_0 : decode cX1_rows 0 = .ok (.new 307, 3) := dk_187 1 51 (dk_at dksX1_rows_0 0 rfl rfl)
theorem dX1_rows_3 : decode cX1_rows 3 = .ok (.dup, 1) := dk_89 (dk_at dksX1_rows_0 3 rfl rfl)
theorem dX1_rows_4 : decode cX1_rows 4 = .ok (.aload_n 0, 1) := dk_42 (dk_at dksX1_rows_0 4 rfl rfl)
theorem dX1_rows_5 : decode cX1_rows 5 = .ok (.iload_n 1, 1) := dk_27 (dk_at dksX1_rows_0 5 rfl rfl)
theorem dX1_rows_6 : decode cX1_rows 6 = .ok (.invokespecial 309, 3) := dk_183 1 53 (dk_at dksX1_rows_0 6 rfl rfl)
theorem dX1_rows_9 : decode cX1_rows 9 = .ok (.astore 4, 2) := dk_58 4 (dk_at dksX1_rows_0 9 rfl rfl)
theorem dX1_rows_11 : decode cX1_rows 11 = .ok (.iload_n 2, 1) := dk_28 (dk_at dksX1_rows_0 11 rfl rfl)
theorem dX1_rows_12 : decode cX1_rows 12 = .ok (.istore 5, 2) := dk_54 5 (dk_at dksX1_rows_0 12 rfl rfl)
theorem dX1_rows_14 : decode cX1_rows 14 = .ok (.iload 5, 2) := dk_21 5 (dk_at dksX1_rows_0 14 rfl rfl)
theorem dX1_rows_16 : decode cX1_rows 16 = .ok (.iload_n 3, 1) := dk_29 (dk_at dksX1_rows_0 16 rfl rfl)
theorem dX1_rows_17 : decode cX1_rows 17 = .ok (.if_icmp .ge 16, 3) := dk_162 0 16 (dk_at dksX1_rows_0 17 rfl rfl)
theorem dX1_rows_20 : decode cX1_rows 20 = .ok (.aload 4, 2) := dk_25 4 (dk_at dksX1_rows_0 20 rfl rfl)
theorem dX1_rows_22 : decode cX1_rows 22 = .ok (.iload 5, 2) := dk_21 5 (dk_at dksX1_rows_0 22 rfl rfl)
theorem dX1_rows_24 : decode cX1_rows 24 = .ok (.invokevirtual 312, 3) := dk_182 1 56 (dk_at dksX1_rows_1 0 rfl rfl)
theorem dX1_rows_27 : decode cX1_rows 27 = .ok (.iinc 5 1, 3) := dk_132 5 1 (dk_at dksX1_rows_1 3 rfl rfl)
theorem dX1_rows_30 : decode cX1_rows 30 = .ok (.goto (-16), 3) := dk_167 255 240 (dk_at dksX1_rows_1 6 rfl rfl)
theorem dX1_rows_33 : decode cX1_rows 33 = .ok (.iload_n 3, 1) := dk_29 (dk_at dksX1_rows_1 9 rfl rfl)
theorem dX1_rows_34 : decode cX1_rows 34 = .ok (.aload 4, 2) := dk_25 4 (dk_at dksX1_rows_1 10 rfl rfl)
theorem dX1_rows_36 : decode cX1_rows 36 = .ok (.getfield 332, 3) := dk_180 1 76 (dk_at dksX1_rows_1 12 rfl rfl)
theorem dX1_rows_39 : decode cX1_rows 39 = .ok (.invokevirtual 77, 3) := dk_182 0 77 (dk_at dksX1_rows_1 15 rfl rfl)
theorem dX1_rows_42 : decode cX1_rows 42 = .ok (.if_icmp .ne 9, 3) := dk_160 0 9 (dk_at dksX1_rows_1 18 rfl rfl)
theorem dX1_rows_45 : decode cX1_rows 45 = .ok (.aload 4, 2) := dk_25 4 (dk_at dksX1_rows_1 21 rfl rfl)
theorem dX1_rows_47 : decode cX1_rows 47 = .ok (.iload_n 3, 1) := dk_29 (dk_at dksX1_rows_1 23 rfl rfl)
theorem dX1_rows_48 : decode cX1_rows 48 = .ok (.invokevirtual 315, 3) := dk_182 1 59 (dk_at dksX1_rows_2 0 rfl rfl)
theorem dX1_rows_51 : decode cX1_rows 51 = .ok (.aload 4, 2) := dk_25 4 (dk_at dksX1_rows_2 3 rfl rfl)
theorem dX1_rows_53 : decode cX1_rows 53 = .ok (.areturn, 1) := dk_176 (dk_at dksX1_rows_2 5 rfl rfl)
theorem dX1_pairs_0 : decode cX1_pairs 0 = .ok (.aload_n 0, 1) := dk_42 (dk_at dksX1_pairs_0 0 rfl rfl)
theorem dX1_pairs_1 : decode cX1_pairs 1 = .ok (.iload_n 1, 1) := dk_27 (dk_at dksX1_pairs_0 1 rfl rfl)
theorem dX1_pairs_2 : decode cX1_pairs 2 = .ok (.invokevirtual 184, 3) := dk_182 0 184 (dk_at dksX1_pairs_0 2 rfl rfl)
theorem dX1_pairs_5 : decode cX1_pairs 5 = .ok (.invokevirtual 77, 3) := dk_182 0 77 (dk_at dksX1_pairs_0 5 rfl rfl)
theorem dX1_pairs_8 : decode cX1_pairs 8 = .ok (.istore_n 2, 1) := dk_61 (dk_at dksX1_pairs_0 8 rfl rfl)
theorem dX1_pairs_9 : decode cX1_pairs 9 = .ok (.iconst 1, 1) := dk_4 (dk_at dksX1_pairs_0 9 rfl rfl)
theorem dX1_pairs_10 : decode cX1_pairs 10 = .ok (.istore_n 3, 1) := dk_62 (dk_at dksX1_pairs_0 10 rfl rfl)
theorem dX1_pairs_11 : decode cX1_pairs 11 = .ok (.aload_n 0, 1) := dk_42 (dk_at dksX1_pairs_0 11 rfl rfl)
theorem dX1_pairs_12 : decode cX1_pairs 12 = .ok (.iload_n 1, 1) := dk_27 (dk_at dksX1_pairs_0 12 rfl rfl)
theorem dX1_pairs_13 : decode cX1_pairs 13 = .ok (.iconst 0, 1) := dk_3 (dk_at dksX1_pairs_0 13 rfl rfl)
theorem dX1_pairs_14 : decode cX1_pairs 14 = .ok (.invokevirtual 325, 3) := dk_182 1 69 (dk_at dksX1_pairs_0 14 rfl rfl)
theorem dX1_pairs_17 : decode cX1_pairs 17 = .ok (.istore 4, 2) := dk_54 4 (dk_at dksX1_pairs_0 17 rfl rfl)
theorem dX1_pairs_19 : decode cX1_pairs 19 = .ok (.iload 4, 2) := dk_21 4 (dk_at dksX1_pairs_0 19 rfl rfl)
theorem dX1_pairs_21 : decode cX1_pairs 21 = .ok (.iload_n 2, 1) := dk_28 (dk_at dksX1_pairs_0 21 rfl rfl)
theorem dX1_pairs_22 : decode cX1_pairs 22 = .ok (.if_icmp .ge 18, 3) := dk_162 0 18 (dk_at dksX1_pairs_1 0 rfl rfl)
theorem dX1_pairs_25 : decode cX1_pairs 25 = .ok (.iinc 3 1, 3) := dk_132 3 1 (dk_at dksX1_pairs_1 3 rfl rfl)
theorem dX1_pairs_28 : decode cX1_pairs 28 = .ok (.aload_n 0, 1) := dk_42 (dk_at dksX1_pairs_1 6 rfl rfl)
theorem dX1_pairs_29 : decode cX1_pairs 29 = .ok (.iload_n 1, 1) := dk_27 (dk_at dksX1_pairs_1 7 rfl rfl)
theorem dX1_pairs_30 : decode cX1_pairs 30 = .ok (.iload 4, 2) := dk_21 4 (dk_at dksX1_pairs_1 8 rfl rfl)
theorem dX1_pairs_32 : decode cX1_pairs 32 = .ok (.invokevirtual 325, 3) := dk_182 1 69 (dk_at dksX1_pairs_1 10 rfl rfl)
theorem dX1_pairs_35 : decode cX1_pairs 35 = .ok (.istore 4, 2) := dk_54 4 (dk_at dksX1_pairs_1 13 rfl rfl)
theorem dX1_pairs_37 : decode cX1_pairs 37 = .ok (.goto (-18), 3) := dk_167 255 238 (dk_at dksX1_pairs_1 15 rfl rfl)
theorem dX1_pairs_40 : decode cX1_pairs 40 = .ok (.iload_n 3, 1) := dk_29 (dk_at dksX1_pairs_1 18 rfl rfl)
theorem dX1_pairs_41 : decode cX1_pairs 41 = .ok (.ireturn, 1) := dk_172 (dk_at dksX1_pairs_1 19 rfl rfl)
theorem dX1_pair_0 : decode cX1_pair 0 = .ok (.aload_n 0, 1) := dk_42 (dk_at dksX1_pair_0 0 rfl rfl)
theorem dX1_pair_1 : decode cX1_pair 1 = .ok (.getfield 31, 3) := dk_180 0 31 (dk_at dksX1_pair_0 1 rfl rfl)
theorem dX1_pair_4 : decode cX1_pair 4 = .ok (.getfield 44, 3) := dk_180 0 44 (dk_at dksX1_pair_0 4 rfl rfl)
theorem dX1_pair_7 : decode cX1_pair 7 = .ok (.iload_n 1, 1) := dk_27 (dk_at dksX1_pair_0 7 rfl rfl)
theorem dX1_pair_8 : decode cX1_pair 8 = .ok (.invokevirtual 180, 3) := dk_182 0 180 (dk_at dksX1_pair_0 8 rfl rfl)
theorem dX1_pair_11 : decode cX1_pair 11 = .ok (.checkcast 78, 3) := dk_192 0 78 (dk_at dksX1_pair_0 11 rfl rfl)
theorem dX1_pair_14 : decode cX1_pair 14 = .ok (.invokevirtual 77, 3) := dk_182 0 77 (dk_at dksX1_pair_0 14 rfl rfl)
theorem dX1_pair_17 : decode cX1_pair 17 = .ok (.istore_n 3, 1) := dk_62 (dk_at dksX1_pair_0 17 rfl rfl)
theorem dX1_pair_18 : decode cX1_pair 18 = .ok (.iconst 0, 1) := dk_3 (dk_at dksX1_pair_0 18 rfl rfl)
theorem dX1_pair_19 : decode cX1_pair 19 = .ok (.istore 4, 2) := dk_54 4 (dk_at dksX1_pair_0 19 rfl rfl)
theorem dX1_pair_21 : decode cX1_pair 21 = .ok (.aload_n 0, 1) := dk_42 (dk_at dksX1_pair_0 21 rfl rfl)
theorem dX1_pair_22 : decode cX1_pair 22 = .ok (.iload_n 1, 1) := dk_27 (dk_at dksX1_pair_0 22 rfl rfl)
theorem dX1_pair_23 : decode cX1_pair 23 = .ok (.iconst 0, 1) := dk_3 (dk_at dksX1_pair_0 23 rfl rfl)
theorem dX1_pair_24 : decode cX1_pair 24 = .ok (.invokevirtual 325, 3) := dk_182 1 69 (dk_at dksX1_pair_1 0 rfl rfl)
theorem dX1_pair_27 : decode cX1_pair 27 = .ok (.istore 5, 2) := dk_54 5 (dk_at dksX1_pair_1 3 rfl rfl)
theorem dX1_pair_29 : decode cX1_pair 29 = .ok (.iconst 0, 1) := dk_3 (dk_at dksX1_pair_1 5 rfl rfl)
theorem dX1_pair_30 : decode cX1_pair 30 = .ok (.istore 6, 2) := dk_54 6 (dk_at dksX1_pair_1 6 rfl rfl)
theorem dX1_pair_32 : decode cX1_pair 32 = .ok (.iload 6, 2) := dk_21 6 (dk_at dksX1_pair_1 8 rfl rfl)
theorem dX1_pair_34 : decode cX1_pair 34 = .ok (.iload_n 2, 1) := dk_28 (dk_at dksX1_pair_1 10 rfl rfl)
theorem dX1_pair_35 : decode cX1_pair 35 = .ok (.if_icmp .ge 46, 3) := dk_162 0 46 (dk_at dksX1_pair_1 11 rfl rfl)
theorem dX1_pair_38 : decode cX1_pair 38 = .ok (.iload 5, 2) := dk_21 5 (dk_at dksX1_pair_1 14 rfl rfl)
theorem dX1_pair_40 : decode cX1_pair 40 = .ok (.iload_n 3, 1) := dk_29 (dk_at dksX1_pair_1 16 rfl rfl)
theorem dX1_pair_41 : decode cX1_pair 41 = .ok (.if_icmp .ge 40, 3) := dk_162 0 40 (dk_at dksX1_pair_1 17 rfl rfl)
theorem dX1_pair_44 : decode cX1_pair 44 = .ok (.iload 5, 2) := dk_21 5 (dk_at dksX1_pair_1 20 rfl rfl)
theorem dX1_pair_46 : decode cX1_pair 46 = .ok (.istore 4, 2) := dk_54 4 (dk_at dksX1_pair_1 22 rfl rfl)
theorem dX1_pair_48 : decode cX1_pair 48 = .ok (.aload_n 0, 1) := dk_42 (dk_at dksX1_pair_2 0 rfl rfl)
theorem dX1_pair_49 : decode cX1_pair 49 = .ok (.iload_n 1, 1) := dk_27 (dk_at dksX1_pair_2 1 rfl rfl)
theorem dX1_pair_50 : decode cX1_pair 50 = .ok (.iload 4, 2) := dk_21 4 (dk_at dksX1_pair_2 2 rfl rfl)
theorem dX1_pair_52 : decode cX1_pair 52 = .ok (.invokevirtual 325, 3) := dk_182 1 69 (dk_at dksX1_pair_2 4 rfl rfl)
theorem dX1_pair_55 : decode cX1_pair 55 = .ok (.istore 5, 2) := dk_54 5 (dk_at dksX1_pair_2 7 rfl rfl)
theorem dX1_pair_57 : decode cX1_pair 57 = .ok (.iload 6, 2) := dk_21 6 (dk_at dksX1_pair_2 9 rfl rfl)
theorem dX1_pair_59 : decode cX1_pair 59 = .ok (.iconst 1, 1) := dk_4 (dk_at dksX1_pair_2 11 rfl rfl)
theorem dX1_pair_60 : decode cX1_pair 60 = .ok (.iadd, 1) := dk_96 (dk_at dksX1_pair_2 12 rfl rfl)
theorem dX1_pair_61 : decode cX1_pair 61 = .ok (.iload_n 2, 1) := dk_28 (dk_at dksX1_pair_2 13 rfl rfl)
theorem dX1_pair_62 : decode cX1_pair 62 = .ok (.if_icmp .ne 13, 3) := dk_160 0 13 (dk_at dksX1_pair_2 14 rfl rfl)
theorem dX1_pair_65 : decode cX1_pair 65 = .ok (.aload_n 0, 1) := dk_42 (dk_at dksX1_pair_2 17 rfl rfl)
theorem dX1_pair_66 : decode cX1_pair 66 = .ok (.iload_n 1, 1) := dk_27 (dk_at dksX1_pair_2 18 rfl rfl)
theorem dX1_pair_67 : decode cX1_pair 67 = .ok (.iload 4, 2) := dk_21 4 (dk_at dksX1_pair_2 19 rfl rfl)
theorem dX1_pair_69 : decode cX1_pair 69 = .ok (.iload 5, 2) := dk_21 5 (dk_at dksX1_pair_2 21 rfl rfl)
theorem dX1_pair_71 : decode cX1_pair 71 = .ok (.invokevirtual 328, 3) := dk_182 1 72 (dk_at dksX1_pair_3 0 rfl rfl)
theorem dX1_pair_74 : decode cX1_pair 74 = .ok (.areturn, 1) := dk_176 (dk_at dksX1_pair_3 3 rfl rfl)
theorem dX1_pair_75 : decode cX1_pair 75 = .ok (.iinc 6 1, 3) := dk_132 6 1 (dk_at dksX1_pair_3 4 rfl rfl)
theorem dX1_pair_78 : decode cX1_pair 78 = .ok (.goto (-46), 3) := dk_167 255 210 (dk_at dksX1_pair_3 7 rfl rfl)
theorem dX1_pair_81 : decode cX1_pair 81 = .ok (.iload_n 2, 1) := dk_28 (dk_at dksX1_pair_3 10 rfl rfl)
theorem dX1_pair_82 : decode cX1_pair 82 = .ok (.ifCond .ne 15, 3) := dk_154 0 15 (dk_at dksX1_pair_3 11 rfl rfl)
theorem dX1_pair_85 : decode cX1_pair 85 = .ok (.aload_n 0, 1) := dk_42 (dk_at dksX1_pair_3 14 rfl rfl)
theorem dX1_pair_86 : decode cX1_pair 86 = .ok (.iload_n 1, 1) := dk_27 (dk_at dksX1_pair_3 15 rfl rfl)
theorem dX1_pair_87 : decode cX1_pair 87 = .ok (.iload 4, 2) := dk_21 4 (dk_at dksX1_pair_3 16 rfl rfl)
theorem dX1_pair_89 : decode cX1_pair 89 = .ok (.iload 5, 2) := dk_21 5 (dk_at dksX1_pair_3 18 rfl rfl)
theorem dX1_pair_91 : decode cX1_pair 91 = .ok (.invokevirtual 328, 3) := dk_182 1 72 (dk_at dksX1_pair_3 20 rfl rfl)
theorem dX1_pair_94 : decode cX1_pair 94 = .ok (.goto 4, 3) := dk_167 0 4 (dk_at dksX1_pair_4 0 rfl rfl)
theorem dX1_pair_97 : decode cX1_pair 97 = .ok (.aconst_null, 1) := dk_1 (dk_at dksX1_pair_4 3 rfl rfl)
theorem dX1_pair_98 : decode cX1_pair 98 = .ok (.areturn, 1) := dk_176 (dk_at dksX1_pair_4 4 rfl rfl)
theorem dX1_row_0 : decode cX1_row 0 = .ok (.iload_n 1, 1) := dk_27 (dk_at dksX1_row_0 0 rfl rfl)
theorem dX1_row_1 : decode cX1_row 1 = .ok (.aload_n 0, 1) := dk_42 (dk_at dksX1_row_0 1 rfl rfl)
theorem dX1_row_2 : decode cX1_row 2 = .ok (.getfield 31, 3) := dk_180 0 31 (dk_at dksX1_row_0 2 rfl rfl)
theorem dX1_row_5 : decode cX1_row 5 = .ok (.getfield 44, 3) := dk_180 0 44 (dk_at dksX1_row_0 5 rfl rfl)
theorem dX1_row_8 : decode cX1_row 8 = .ok (.invokevirtual 168, 3) := dk_182 0 168 (dk_at dksX1_row_0 8 rfl rfl)
theorem dX1_row_11 : decode cX1_row 11 = .ok (.invokestatic 176, 3) := dk_184 0 176 (dk_at dksX1_row_0 11 rfl rfl)
theorem dX1_row_14 : decode cX1_row 14 = .ok (.iload_n 2, 1) := dk_28 (dk_at dksX1_row_0 14 rfl rfl)
theorem dX1_row_15 : decode cX1_row 15 = .ok (.ifCond .ge 11, 3) := dk_156 0 11 (dk_at dksX1_row_0 15 rfl rfl)
theorem dX1_row_18 : decode cX1_row 18 = .ok (.new 60, 3) := dk_187 0 60 (dk_at dksX1_row_0 18 rfl rfl)
theorem dX1_row_21 : decode cX1_row 21 = .ok (.dup, 1) := dk_89 (dk_at dksX1_row_0 21 rfl rfl)
theorem dX1_row_22 : decode cX1_row 22 = .ok (.invokespecial 62, 3) := dk_183 0 62 (dk_at dksX1_row_1 0 rfl rfl)
theorem dX1_row_25 : decode cX1_row 25 = .ok (.athrow, 1) := dk_191 (dk_at dksX1_row_1 3 rfl rfl)
theorem dX1_row_26 : decode cX1_row 26 = .ok (.aload_n 0, 1) := dk_42 (dk_at dksX1_row_1 4 rfl rfl)
theorem dX1_row_27 : decode cX1_row 27 = .ok (.iload_n 1, 1) := dk_27 (dk_at dksX1_row_1 5 rfl rfl)
theorem dX1_row_28 : decode cX1_row 28 = .ok (.iload_n 2, 1) := dk_28 (dk_at dksX1_row_1 6 rfl rfl)
theorem dX1_row_29 : decode cX1_row 29 = .ok (.invokevirtual 336, 3) := dk_182 1 80 (dk_at dksX1_row_1 7 rfl rfl)
theorem dX1_row_32 : decode cX1_row 32 = .ok (.astore 4, 2) := dk_58 4 (dk_at dksX1_row_1 10 rfl rfl)
theorem dX1_row_34 : decode cX1_row 34 = .ok (.iload_n 3, 1) := dk_29 (dk_at dksX1_row_1 12 rfl rfl)
theorem dX1_row_35 : decode cX1_row 35 = .ok (.aload 4, 2) := dk_25 4 (dk_at dksX1_row_1 13 rfl rfl)
theorem dX1_row_37 : decode cX1_row 37 = .ok (.ifnonnull 7, 3) := dk_199 0 7 (dk_at dksX1_row_1 15 rfl rfl)
theorem dX1_row_40 : decode cX1_row 40 = .ok (.iconst 0, 1) := dk_3 (dk_at dksX1_row_1 18 rfl rfl)
theorem dX1_row_41 : decode cX1_row 41 = .ok (.goto 4, 3) := dk_167 0 4 (dk_at dksX1_row_1 19 rfl rfl)
theorem dX1_row_44 : decode cX1_row 44 = .ok (.iconst 2, 1) := dk_5 (dk_at dksX1_row_1 22 rfl rfl)
theorem dX1_row_45 : decode cX1_row 45 = .ok (.invokestatic 176, 3) := dk_184 0 176 (dk_at dksX1_row_2 0 rfl rfl)
theorem dX1_row_48 : decode cX1_row 48 = .ok (.iload_n 3, 1) := dk_29 (dk_at dksX1_row_2 3 rfl rfl)
theorem dX1_row_49 : decode cX1_row 49 = .ok (.ifCond .ne 11, 3) := dk_154 0 11 (dk_at dksX1_row_2 4 rfl rfl)
theorem dX1_row_52 : decode cX1_row 52 = .ok (.aload 4, 2) := dk_25 4 (dk_at dksX1_row_2 7 rfl rfl)
theorem dX1_row_54 : decode cX1_row 54 = .ok (.getfield 340, 3) := dk_180 1 84 (dk_at dksX1_row_2 9 rfl rfl)
theorem dX1_row_57 : decode cX1_row 57 = .ok (.goto 8, 3) := dk_167 0 8 (dk_at dksX1_row_2 12 rfl rfl)
theorem dX1_row_60 : decode cX1_row 60 = .ok (.aload 4, 2) := dk_25 4 (dk_at dksX1_row_2 15 rfl rfl)
theorem dX1_row_62 : decode cX1_row 62 = .ok (.getfield 344, 3) := dk_180 1 88 (dk_at dksX1_row_2 17 rfl rfl)
theorem dX1_row_65 : decode cX1_row 65 = .ok (.areturn, 1) := dk_176 (dk_at dksX1_row_2 20 rfl rfl)
theorem dX1_rowLength_0 : decode cX1_rowLength 0 = .ok (.aload_n 0, 1) := dk_42 (dk_at dksX1_rowLength_0 0 rfl rfl)
theorem dX1_rowLength_1 : decode cX1_rowLength 1 = .ok (.iload_n 1, 1) := dk_27 (dk_at dksX1_rowLength_0 1 rfl rfl)
theorem dX1_rowLength_2 : decode cX1_rowLength 2 = .ok (.iload_n 2, 1) := dk_28 (dk_at dksX1_rowLength_0 2 rfl rfl)
theorem dX1_rowLength_3 : decode cX1_rowLength 3 = .ok (.iload_n 3, 1) := dk_29 (dk_at dksX1_rowLength_0 3 rfl rfl)
theorem dX1_rowLength_4 : decode cX1_rowLength 4 = .ok (.invokevirtual 347, 3) := dk_182 1 91 (dk_at dksX1_rowLength_0 4 rfl rfl)
theorem dX1_rowLength_7 : decode cX1_rowLength 7 = .ok (.invokevirtual 351, 3) := dk_182 1 95 (dk_at dksX1_rowLength_0 7 rfl rfl)
theorem dX1_rowLength_10 : decode cX1_rowLength 10 = .ok (.ireturn, 1) := dk_172 (dk_at dksX1_rowLength_0 10 rfl rfl)
theorem dX1_rowChar_0 : decode cX1_rowChar 0 = .ok (.aload_n 0, 1) := dk_42 (dk_at dksX1_rowChar_0 0 rfl rfl)
theorem dX1_rowChar_1 : decode cX1_rowChar 1 = .ok (.iload_n 1, 1) := dk_27 (dk_at dksX1_rowChar_0 1 rfl rfl)
theorem dX1_rowChar_2 : decode cX1_rowChar 2 = .ok (.iload_n 2, 1) := dk_28 (dk_at dksX1_rowChar_0 2 rfl rfl)
theorem dX1_rowChar_3 : decode cX1_rowChar 3 = .ok (.iload_n 3, 1) := dk_29 (dk_at dksX1_rowChar_0 3 rfl rfl)
theorem dX1_rowChar_4 : decode cX1_rowChar 4 = .ok (.invokevirtual 347, 3) := dk_182 1 91 (dk_at dksX1_rowChar_0 4 rfl rfl)
theorem dX1_rowChar_7 : decode cX1_rowChar 7 = .ok (.astore 5, 2) := dk_58 5 (dk_at dksX1_rowChar_0 7 rfl rfl)
theorem dX1_rowChar_9 : decode cX1_rowChar 9 = .ok (.iload 4, 2) := dk_21 4 (dk_at dksX1_rowChar_0 9 rfl rfl)
theorem dX1_rowChar_11 : decode cX1_rowChar 11 = .ok (.ifCond .ge 11, 3) := dk_156 0 11 (dk_at dksX1_rowChar_0 11 rfl rfl)
theorem dX1_rowChar_14 : decode cX1_rowChar 14 = .ok (.new 60, 3) := dk_187 0 60 (dk_at dksX1_rowChar_0 14 rfl rfl)
theorem dX1_rowChar_17 : decode cX1_rowChar 17 = .ok (.dup, 1) := dk_89 (dk_at dksX1_rowChar_0 17 rfl rfl)
theorem dX1_rowChar_18 : decode cX1_rowChar 18 = .ok (.invokespecial 62, 3) := dk_183 0 62 (dk_at dksX1_rowChar_0 18 rfl rfl)
theorem dX1_rowChar_21 : decode cX1_rowChar 21 = .ok (.athrow, 1) := dk_191 (dk_at dksX1_rowChar_0 21 rfl rfl)
theorem dX1_rowChar_22 : decode cX1_rowChar 22 = .ok (.iload 4, 2) := dk_21 4 (dk_at dksX1_rowChar_0 22 rfl rfl)
theorem dX1_rowChar_24 : decode cX1_rowChar 24 = .ok (.aload 5, 2) := dk_25 5 (dk_at dksX1_rowChar_1 0 rfl rfl)
theorem dX1_rowChar_26 : decode cX1_rowChar 26 = .ok (.invokevirtual 351, 3) := dk_182 1 95 (dk_at dksX1_rowChar_1 2 rfl rfl)
theorem dX1_rowChar_29 : decode cX1_rowChar 29 = .ok (.if_icmp .ge 13, 3) := dk_162 0 13 (dk_at dksX1_rowChar_1 5 rfl rfl)
theorem dX1_rowChar_32 : decode cX1_rowChar 32 = .ok (.aload 5, 2) := dk_25 5 (dk_at dksX1_rowChar_1 8 rfl rfl)
theorem dX1_rowChar_34 : decode cX1_rowChar 34 = .ok (.iload 4, 2) := dk_21 4 (dk_at dksX1_rowChar_1 10 rfl rfl)
theorem dX1_rowChar_36 : decode cX1_rowChar 36 = .ok (.invokevirtual 352, 3) := dk_182 1 96 (dk_at dksX1_rowChar_1 12 rfl rfl)
theorem dX1_rowChar_39 : decode cX1_rowChar 39 = .ok (.goto 4, 3) := dk_167 0 4 (dk_at dksX1_rowChar_1 15 rfl rfl)
theorem dX1_rowChar_42 : decode cX1_rowChar 42 = .ok (.iconst (-1), 1) := dk_2 (dk_at dksX1_rowChar_1 18 rfl rfl)
theorem dX1_rowChar_43 : decode cX1_rowChar 43 = .ok (.ireturn, 1) := dk_172 (dk_at dksX1_rowChar_1 19 rfl rfl)
theorem q1949 : (Jvm.Cond.methodLink "ChordSheet" (325 : Nat) ({ cls := "ChordSheet", name := "endOf", desc := "(II)I" } : Jvm.MethodName)) ∈ lw_all := lw_g (lw_at lw_m8 207 rfl) rfl
theorem q1951 : (Jvm.Cond.instanceMethod ({ cls := "ChordSheet", name := "endOf", desc := "(II)I" } : Jvm.MethodName)) ∈ lw_all := lw_g (lw_at lw_m8 209 rfl) rfl
theorem q1952 : (Jvm.Cond.code ({ cls := "ChordSheet", name := "endOf", desc := "(II)I" } : Jvm.MethodName) prog_1_method_54_code (7 : Nat) (Option.some Jvm.ClassFile.FieldType.int)) ∈ lw_all := lw_g (lw_at lw_m8 210 rfl) rfl
theorem q1965 : (Jvm.Cond.fieldLinkNest "ChordSheet" (332 : Nat) "ChordSheet$Rows" "lyrics" "Ljava/lang/String;" "ChordSheet") ∈ lw_tbl := lw_at lw_m8 223 rfl
theorem q1967 : (Jvm.Cond.fieldLinkNest "ChordSheet" (340 : Nat) "ChordSheet$Rows" "chordRow" "Ljava/lang/StringBuilder;" "ChordSheet") ∈ lw_tbl := lw_at lw_m8 225 rfl
theorem q1969 : (Jvm.Cond.fieldLinkNest "ChordSheet" (344 : Nat) "ChordSheet$Rows" "lyricRow" "Ljava/lang/StringBuilder;" "ChordSheet") ∈ lw_tbl := lw_at lw_m8 227 rfl
theorem q2024 : (Jvm.Cond.methodLink "ChordSheet" (347 : Nat) ({ cls := "ChordSheet", name := "row", desc := "(III)Ljava/lang/StringBuilder;" } : Jvm.MethodName)) ∈ lw_all := lw_g (lw_at lw_m9 42 rfl) rfl
theorem q2026 : (Jvm.Cond.instanceMethod ({ cls := "ChordSheet", name := "row", desc := "(III)Ljava/lang/StringBuilder;" } : Jvm.MethodName)) ∈ lw_all := lw_g (lw_at lw_m9 44 rfl) rfl
theorem q2027 : (Jvm.Cond.code ({ cls := "ChordSheet", name := "row", desc := "(III)Ljava/lang/StringBuilder;" } : Jvm.MethodName) prog_1_method_58_code (5 : Nat) (Option.some (Jvm.ClassFile.FieldType.object "java/lang/StringBuilder"))) ∈ lw_all := lw_g (lw_at lw_m9 45 rfl) rfl
theorem q2028 : (Jvm.Cond.methodLink "ChordSheet" (336 : Nat) ({ cls := "ChordSheet", name := "pair", desc := "(II)LChordSheet$Rows;" } : Jvm.MethodName)) ∈ lw_all := lw_g (lw_at lw_m9 46 rfl) rfl
theorem q2030 : (Jvm.Cond.instanceMethod ({ cls := "ChordSheet", name := "pair", desc := "(II)LChordSheet$Rows;" } : Jvm.MethodName)) ∈ lw_all := lw_g (lw_at lw_m9 48 rfl) rfl
theorem q2031 : (Jvm.Cond.code ({ cls := "ChordSheet", name := "pair", desc := "(II)LChordSheet$Rows;" } : Jvm.MethodName) prog_1_method_55_code (7 : Nat) (Option.some (Jvm.ClassFile.FieldType.object "ChordSheet$Rows"))) ∈ lw_all := lw_g (lw_at lw_m9 49 rfl) rfl
theorem q2032 : (Jvm.Cond.methodLink "ChordSheet" (328 : Nat) ({ cls := "ChordSheet", name := "rows", desc := "(III)LChordSheet$Rows;" } : Jvm.MethodName)) ∈ lw_all := lw_g (lw_at lw_m9 50 rfl) rfl
theorem q2034 : (Jvm.Cond.instanceMethod ({ cls := "ChordSheet", name := "rows", desc := "(III)LChordSheet$Rows;" } : Jvm.MethodName)) ∈ lw_all := lw_g (lw_at lw_m9 52 rfl) rfl
theorem q2035 : (Jvm.Cond.code ({ cls := "ChordSheet", name := "rows", desc := "(III)LChordSheet$Rows;" } : Jvm.MethodName) prog_1_method_56_code (6 : Nat) (Option.some (Jvm.ClassFile.FieldType.object "ChordSheet$Rows"))) ∈ lw_all := lw_g (lw_at lw_m9 53 rfl) rfl
theorem q2036 : (Jvm.Cond.methodLink "ChordSheet" (351 : Nat) ({ cls := "java/lang/StringBuilder", name := "length", desc := "()I" } : Jvm.MethodName)) ∈ lw_all := lw_g (lw_at lw_m9 54 rfl) rfl
theorem q2044 : (Jvm.Cond.methodLink "ChordSheet" (352 : Nat) ({ cls := "java/lang/StringBuilder", name := "charAt", desc := "(I)C" } : Jvm.MethodName)) ∈ lw_all := lw_g (lw_at lw_m9 62 rfl) rfl
theorem q2045 : (Jvm.Cond.instanceMethod ({ cls := "java/lang/StringBuilder", name := "charAt", desc := "(I)C" } : Jvm.MethodName)) ∈ lw_all := lw_g (lw_at lw_m9 63 rfl) rfl
theorem q2046 : (Jvm.Cond.selects "java/lang/StringBuilder" ({ cls := "java/lang/StringBuilder", name := "charAt", desc := "(I)C" } : Jvm.MethodName) ({ cls := "java/lang/StringBuilder", name := "charAt", desc := "(I)C" } : Jvm.MethodName)) ∈ lw_all := lw_g (lw_at lw_m9 64 rfl) rfl
theorem q2047 : (Jvm.Cond.code ({ cls := "java/lang/StringBuilder", name := "charAt", desc := "(I)C" } : Jvm.MethodName) prog_31_method_88_code (2 : Nat) (Option.some Jvm.ClassFile.FieldType.char)) ∈ lw_all := lw_g (lw_at lw_m9 65 rfl) rfl
/-- where the j-th pair begins -/
def esq (T : List Int) (ln : Int) (cs : List zCh) (wd : Int) : Nat → Int
  | 0 => 0
  | j + 1 => endo T ln cs wd (esq T ln cs wd j)
theorem esq_b (T : List Int) (ln : Int) (cs : List zCh) (wd : Int) : ∀ j, 0 ≤ esq T ln cs wd j ∧ esq T ln cs wd j ≤ (T.length : Nat) := by
  intro j
  induction j with
  | zero => exact ⟨Int.le_refl _, by simp only [esq]; omega⟩
  | succ j ih =>
    have := endo_b (T := T) (ln := ln) (cs := cs) (wd := wd) (fr := esq T ln cs wd j) (by omega)
    simp only [esq]
    by_cases h : esq T ln cs wd j < (T.length : Nat)
    · have := this.1 h; omega
    · have := this.2.2 h; omega
theorem esq_s {T : List Int} {ln : Int} {cs : List zCh} {wd : Int} {j : Nat} (h : esq T ln cs wd j < (T.length : Nat)) : esq T ln cs wd j + 1 ≤ esq T ln cs wd (j + 1) := (endo_b (by have := esq_b T ln cs wd j; omega)).1 h
theorem esq_e {T : List Int} {ln : Int} {cs : List zCh} {wd : Int} {i j : Nat} (hij : i ≤ j) (h : ¬ esq T ln cs wd i < (T.length : Nat)) : ¬ esq T ln cs wd j < (T.length : Nat) := by
  induction j with
  | zero => rwa [show i = 0 by omega] at h
  | succ j ih =>
    by_cases e : i = j + 1
    · rwa [e] at h
    · have := (endo_b (T := T) (ln := ln) (cs := cs) (wd := wd) (by have := esq_b T ln cs wd j; omega)).2.2 (ih (by omega))
      simp only [esq]
      omega
theorem esq_m (T : List Int) (ln : Int) (cs : List zCh) (wd : Int) (j : Nat) : esq T ln cs wd j ≤ esq T ln cs wd (j + 1) := by
  by_cases c : esq T ln cs wd j < (T.length : Nat)
  · have := esq_s c; omega
  · have h1 := esq_e (show j ≤ j + 1 from Nat.le_succ j) c
    have h2 := esq_b T ln cs wd j
    have h3 := esq_b T ln cs wd (j + 1)
    omega
/-- how many pairs: from n on, the n-th of which begins at e -/
def pcg (T : List Int) (ln : Int) (cs : List zCh) (wd : Int) : Nat → Int → Int → Int
  | 0, n, _ => n
  | f + 1, n, e => if e < (T.length : Nat) then pcg T ln cs wd f (n + 1) (endo T ln cs wd e) else n
def prs (T : List Int) (ln : Int) (cs : List zCh) (wd : Int) : Int := pcg T ln cs wd (T.length + 1) 1 (endo T ln cs wd 0)
theorem mulst {a b E : Nat} (h : b + 1 ≤ a) : b * E + E ≤ a * E := by
  have := Nat.mul_le_mul_right E h
  rwa [Nat.succ_mul] at this
def pmC (n L C : Nat) : Nat := n * eC L C
def pmS (n L C : Nat) : Nat := n * eS L C
theorem pm_m {a b L C : Nat} (h : b ≤ a) : pmC b L C ≤ pmC a L C ∧ pmS b L C ≤ pmS a L C := ⟨Nat.mul_le_mul_right _ h, Nat.mul_le_mul_right _ h⟩
theorem pm_st {a b L C : Nat} (h : b + 1 ≤ a) : pmC b L C + eC L C ≤ pmC a L C ∧ pmS b L C + eS L C ≤ pmS a L C := ⟨mulst h, mulst h⟩
def rwx (r : Int) (s : zRw) : List Int := if r = 0 then s.1 else s.2
set_option maxHeartbeats 4000000 in
theorem op_rows {l : Launch} (hl : l.stackTraces = false) {Γ : zCx} {h : zH} {c : Nat} {A : zWA} {σ : zSt} (hW : csW Γ h c A σ) {i : Int} {t : List Int} (hi : 0 ≤ i) (ht : σ.sh.ls[i.toNat]? = some t) {fr to : Int} (hft : 0 ≤ fr ∧ fr ≤ to ∧ to ≤ (t.length : Nat))  : zMet l yX1_rows (ws_ yX1_rows cX1_rows 6 (some (.object "ChordSheet$Rows"))) ({ frames := 11, cells := eC t.length σ.sh.cs.length, slots := eS t.length σ.sh.cs.length, locals := 241 }) Γ h [.ref c, .int (iI i), .int (iI fr), .int (iI to)] (zrt (fun w h' => ∃ rw q b1 v1 b2 v2, w = some (.ref rw) ∧ h' rw = some (false, .inr (9, [.int (iI i), .ref q, .ref b1, .ref b2, .ref c])) ∧ bAt h' b1 v1 (lay t i σ.sh.cs fr to).1 (kap (lay t i σ.sh.cs fr to).1.length) ∧ bAt h' b2 v2 (lay t i σ.sh.cs fr to).2 (kap (lay t i σ.sh.cs fr to).2.length) ∧ zkeep h h' [])) (eC t.length σ.sh.cs.length) (eS t.length σ.sh.cs.length) := by
  refine zMet.of (cc := cX1_rows) hl (plainFor_of_name (by decide +kernel)) (Nat.le_of_ble_eq_true rfl) ?_
  intro X hXl hXΓ hXp C hnm hnL
  have C : zC X cX1_rows RX1 (some (.object "ChordSheet$Rows")) 11 241 [] := C
  have hnL : X.2.1.2.2.2.2 = 6 := hnL
  subst hXl hXΓ
  show Z X h (eC t.length σ.sh.cs.length) (eS t.length σ.sh.cs.length) [(0, .ref c), (1, .int (iI i)), (2, .int (iI fr)), (3, .int (iI to))] 0 []
  obtain ⟨⟨tf, hc0, htx, hch⟩, hdq, ⟨lq, kq, lys, ys, hsx, hfl, hls, hl0, hyc, hkx⟩, hhi, hnd, hR⟩ := id hW
  obtain ⟨rsi, rff, rwd, rtl, rtx, rsh, rhi, rhl⟩ := id hR
  obtain ⟨rcl, rcr, rll, rlt, rkt, rkm, rks⟩ := rsh
  have hll := hls.len
  have hyl := hyc.len
  obtain ⟨lm, le0, ln0, lf, hlq, hle, hln, hlN, hlx⟩ := id hfl
  have hxw := hl0
  obtain ⟨mw, fw, law, lew, lzw, ltw, lnw, lcw, lxw, lqw⟩ := hxw
  have hcl := hyc.cl lxw
  have hit := (List.getElem?_eq_some_iff.mp ht).1
  have hT := rlt _ (List.mem_of_getElem? ht)
  obtain ⟨lqq, hlqq, hsq⟩ := (hls).at ht
  obtain ⟨hl_1, v_1, x_1, y_1, g_1, h1_1, h2_1, h3_1, h4_1⟩ := id (hsq)
  have h1_1 : h (lqq) = some (false, .inr (13, [.ref v_1, .int (iI 0), .int x_1, .int y_1])) := h1_1
  have h4T : ∀ c ∈ t, 0 ≤ c ∧ c < 128 := by obtain ⟨-, v, x, y, f, -, -, -, z⟩ := id hsq; exact z
  have hEC : eC t.length σ.sh.cs.length = 8 + 2 * kcC (t.length + 12 * σ.sh.cs.length) + 4 * σ.sh.cs.length := rfl
  have hES : eS t.length σ.sh.cs.length = 60 + 2 * kcS (t.length + 12 * σ.sh.cs.length) + 31 * σ.sh.cs.length := rfl
  refine z_new (pc := 0) (ci := 9) (kc' := (eC t.length σ.sh.cs.length - 1)) (ks' := (eS t.length σ.sh.cs.length - 5)) (fs := [.int (iI 0), .null, .null, .null, .null]) C in_X10 tyX10 tyX10_ok rfl q1953 q1954 q106 df_X10 (by omega) (by omega) dX1_rows_0 (fun a2 fa2 => ?_)
  refine Z.nm (fun h3 eh3 => ?_)
  have na2 : h a2 = none := fa2
  have kh3 : zkeep h h3 [] := by rw [eh3]; exact zkeep.born zkeep.rf fa2
  have fh3_0 : h3 a2 = some (true, .inr (9, [.int (iI 0), .null, .null, .null, .null])) := zse eh3
  refine z_dup (pc := 3) C dX1_rows_3 rfl ?_
  refine z_aload_n (pc := 4) (j := 0) C dX1_rows_4 rfl rfl ?_
  refine z_iload_n (pc := 5) (j := 1) C dX1_rows_5 rfl rfl ?_
  refine z_callI (pc := 6) (n := 2) (kc' := ((eC t.length σ.sh.cs.length - 1) - 4)) (ks' := ((eS t.length σ.sh.cs.length - 5) - 40)) C (ct_W_init C.t fh3_0 (kh3.n hc0 List.not_mem_nil) (kh3.n hsx List.not_mem_nil) (kh3.f hlq) (kh3.f hle) (by omega) (by omega) (hlx _ _ hlqq) (sAt.keep kh3 hsq)) q1957 q106 q1955 q1956 rfl (by decide +kernel) ⟨by decide, by decide⟩ rfl rfl (Nat.le_of_ble_eq_true rfl) dX1_rows_6 (by omega) (by omega) (zrk fun w h4 hp => ?_) zrx
  obtain ⟨rfl, bx_5, vx_5, by_5, vy_5, hrw_5, hb1_5, hb2_5, fbx_5, fvx_5, fby_5, fvy_5, hnb_5, hnv_5, k6⟩ := hp
  have nbx_5 : h bx_5 = none := kh3.none0 fbx_5 List.not_mem_nil
  have nvx_5 : h vx_5 = none := kh3.none0 fvx_5 List.not_mem_nil
  have nby_5 : h by_5 = none := kh3.none0 fby_5 List.not_mem_nil
  have nvy_5 : h vy_5 = none := kh3.none0 fvy_5 List.not_mem_nil
  have kh4 : zkeep h h4 [] := zkeep.loc kh3 k6 (zall_cons (Or.inl (Or.symm (Or.inr na2))) zall_nil)
  have hx_7 := hb1_5
  obtain ⟨z_7, f_7, hb_7, hv_7, hlen_7, hcap_7, hcon_7, hfit_7, hasc_7⟩ := hx_7
  have hx_8 := hb2_5
  obtain ⟨z_8, f_8, hb_8, hv_8, hlen_8, hcap_8, hcon_8, hfit_8, hasc_8⟩ := hx_8
  show Z X h4 ((eC t.length σ.sh.cs.length - 1) - 4) ((eS t.length σ.sh.cs.length - 5) - 40) [(0, .ref c), (1, .int (iI i)), (2, .int (iI fr)), (3, .int (iI to))] 9 [.ref a2]
  refine z_astore (pc := 9) (L' := [(4, .ref a2), (0, .ref c), (1, .int (iI i)), (2, .int (iI fr)), (3, .int (iI to))]) C dX1_rows_9 (by rw [hnL]; decide) rfl ?_
  have hw00 : wC (([] : List Int), ([] : List Int)) = 0 := rfl
  have hw01 : wS (([] : List Int), ([] : List Int)) = 0 := rfl
  have hr00 := rnn_0 i fr σ.sh.cs
  refine z_iload_n (pc := 11) (j := 3) C dX1_rows_11 rfl rfl ?_
  refine z_istore (pc := 12) (L' := [(5, .int (iI fr)), (4, .ref a2), (0, .ref c), (1, .int (iI i)), (2, .int (iI fr)), (3, .int (iI to))]) C dX1_rows_12 (by rw [hnL]; decide) rfl ?_
  have loop14 : ∀ (n14 : Nat) (k : Int) (g : zH) (u2 : List Int) (l2 : List Int) (x1 : Nat) (x2 : Nat), (fr ≤ k ∧ k ≤ to) → (zkeep h g []) → (g a2 = some (false, .inr (9, [.int (iI i), .ref lqq, .ref bx_5, .ref by_5, .ref c]))) → ((u2, l2) = lco t i σ.sh.cs fr (k - fr).toNat) → (bAt g bx_5 x1 u2 (kap u2.length)) → (bAt g by_5 x2 l2 (kap l2.length)) → (h x1 = none) → (h x2 = none) → (x1 ≠ x2) → ((to - k).toNat) = n14 → Z X g (2 * kcC (t.length + 12 * σ.sh.cs.length) + 4 * σ.sh.cs.length - 4 * rnn i fr k σ.sh.cs - wC (u2, l2)) (2 * kcS (t.length + 12 * σ.sh.cs.length) + 31 * σ.sh.cs.length - 31 * rnn i fr k σ.sh.cs - wS (u2, l2)) [(5, .int (iI k)), (4, .ref a2), (3, .int (iI to)), (2, .int (iI fr)), (1, .int (iI i)), (0, .ref c)] 14 [] := by
    intro n14
    induction n14 using Nat.strongRecOn with
    | ind n14 ih14 =>
    intro k g u2 l2 x1 x2 hk hkp hrwg hst hB1 hB2 hm1 hm2 hnx hn14
    have hx_9 := hB1
    obtain ⟨z_9, f_9, hb_9, hv_9, hlen_9, hcap_9, hcon_9, hfit_9, hasc_9⟩ := hx_9
    have hx_10 := hB2
    obtain ⟨z_10, f_10, hb_10, hv_10, hlen_10, hcap_10, hcon_10, hfit_10, hasc_10⟩ := hx_10
    have nx1 := hm1
    have nx2 := hm2
    refine z_iload (pc := 14) (j := 0) C dX1_rows_14 rfl ?_
    refine z_iload_n (pc := 16) (j := 2) C dX1_rows_16 rfl rfl ?_
    refine z_icmp_ge (pc := 17) (tgt := 33) C dX1_rows_17 (by decide) (by omega) (by omega) (fun c17 => ?_) (fun c17 => ?_)
    · have hkt : k = to := by omega
      rw [hkt] at hst
      have hrk : rnn i fr k σ.sh.cs = rnn i fr to σ.sh.cs := by rw [hkt]
      refine z_iload_n (pc := 33) (j := 2) C dX1_rows_33 rfl rfl ?_
      refine z_aload (pc := 34) (j := 1) C dX1_rows_34 rfl ?_
      refine z_getfieldN (pc := 36) (v := .ref lqq) C in_X10 rfl 1 (by decide) q1965 (fun _ z => z) hrwg rfl dX1_rows_36 ?_
      refine z_callV (pc := 39) (n := 0) (kc' := (2 * kcC (t.length + 12 * σ.sh.cs.length) + 4 * σ.sh.cs.length - 4 * rnn i fr k σ.sh.cs - wC (u2, l2))) (ks' := (2 * kcS (t.length + 12 * σ.sh.cs.length) + 31 * σ.sh.cs.length - 31 * rnn i fr k σ.sh.cs - wS (u2, l2))) C (ct_S_length C.t (sAt.keep hkp hsq)) (lw_V q1053 q468 q469 q83 q470) (by decide +kernel) ⟨by decide, by decide⟩ (hkp.f h1_1) rfl rfl rfl (Nat.le_of_ble_eq_true rfl) dX1_rows_39 (by omega) (by omega) (zpk (st' := [.int (iI ((t.length : Nat) : Int)), .int (iI to)]) rfl ?_) zrx
      refine z_icmp_ne (pc := 42) (tgt := 51) C dX1_rows_42 (by decide) (by omega) (by omega) (fun c42 => ?_) (fun c42 => ?_)
      · have hly3 : lay t i σ.sh.cs fr to = (u2, l2) := by unfold lay; rw [if_neg (by omega)]; exact hst.symm
        refine z_aload (pc := 51) (j := 1) C dX1_rows_51 rfl ?_
        exact z_areturn (pc := 53) C (Or.inl ⟨_, rfl⟩) (Or.inr ⟨_, rfl⟩) (by rw [hXp]; exact ⟨_, rfl, a2, lqq, bx_5, x1, by_5, x2, rfl, hrwg, (by rw [hly3]; exact hB1), (by rw [hly3]; exact hB2), hkp⟩) dX1_rows_53
      · have hlu := lay_u (T := t) (ln := i) rcr (fr := fr) (to := to) (by omega)
        have hste : (u2, l2) = lco t i σ.sh.cs fr (to - fr).toNat := hst
        have hly2 : lay t i σ.sh.cs fr to = (rac t i to σ.sh.cs (u2, l2)) := by unfold lay; rw [if_pos (by omega), ← hste]
        rw [hly2] at hlu
        have hMx : (rac t i to σ.sh.cs (u2, l2)).1.length ≤ 1000 ∧ (rac t i to σ.sh.cs (u2, l2)).2.length ≤ 1000 := ⟨by omega, by omega⟩
        have hcX : wC (rac t i to σ.sh.cs (u2, l2)) ≤ 2 * kcC (t.length + 12 * σ.sh.cs.length) := by have h1 := kc_m (a := (rac t i to σ.sh.cs (u2, l2)).1.length) (b := (t.length + 12 * σ.sh.cs.length)) (by omega); have h2 := kc_m (a := (rac t i to σ.sh.cs (u2, l2)).2.length) (b := (t.length + 12 * σ.sh.cs.length)) (by omega); have h3 : wC (rac t i to σ.sh.cs (u2, l2)) = kcC (rac t i to σ.sh.cs (u2, l2)).1.length + kcC (rac t i to σ.sh.cs (u2, l2)).2.length := rfl; omega
        have hcY : wS (rac t i to σ.sh.cs (u2, l2)) ≤ 2 * kcS (t.length + 12 * σ.sh.cs.length) := by have h1 := kc_m (a := (rac t i to σ.sh.cs (u2, l2)).1.length) (b := (t.length + 12 * σ.sh.cs.length)) (by omega); have h2 := kc_m (a := (rac t i to σ.sh.cs (u2, l2)).2.length) (b := (t.length + 12 * σ.sh.cs.length)) (by omega); have h3 : wS (rac t i to σ.sh.cs (u2, l2)) = kcS (rac t i to σ.sh.cs (u2, l2)).1.length + kcS (rac t i to σ.sh.cs (u2, l2)).2.length := rfl; omega
        have hrn3 := rnn_le i fr (to + 1) σ.sh.cs
        have hrn1 := rnn_s (ln := i) (a := fr) (b := to) (by omega) σ.sh.cs
        refine z_aload (pc := 45) (j := 1) C dX1_rows_45 rfl ?_
        refine z_iload_n (pc := 47) (j := 2) C dX1_rows_47 rfl rfl ?_
        refine z_callV (pc := 48) (n := 1) (kc' := (2 * kcC (t.length + 12 * σ.sh.cs.length) + 4 * σ.sh.cs.length - 4 * rnn i fr k σ.sh.cs - wC (u2, l2) - (wC (rac t i to σ.sh.cs (u2, l2)) + 4 * rcn i to σ.sh.cs - wC (u2, l2)))) (ks' := (2 * kcS (t.length + 12 * σ.sh.cs.length) + 31 * σ.sh.cs.length - 31 * rnn i fr k σ.sh.cs - wS (u2, l2) - (wS (rac t i to σ.sh.cs (u2, l2)) + 31 * rcn i to σ.sh.cs - wS (u2, l2)))) C (ct_W_addC C.t hrwg (sAt.keep hkp hsq) hT hB1 hB2 hnb_5 hnx (hkp.n hc0 List.not_mem_nil) (hkp.n hsx List.not_mem_nil) (cqf hyl (hkp.n law List.not_mem_nil)) (hkp.n lew List.not_mem_nil) (clA.keep hkp hcl) ⟨by omega, by omega⟩ rcr (by omega) (col := to) (by omega) ⟨by omega, by omega⟩ hMx) (lw_V q2009 q1987 q1988 q106 q1989) (by decide +kernel) ⟨by decide, by decide⟩ hrwg rfl rfl rfl (Nat.le_of_ble_eq_true rfl) dX1_rows_48 (by omega) (by omega) (zrk fun w h11 hp => ?_) zrx
        obtain ⟨rfl, vx_12, vy_12, hb1_12, hb2_12, hm1_12, hm2_12, hne_12, k13⟩ := hp
        have dvx_12 : vx_12 ∈ ([] : List Nat) ∨ h vx_12 = none := zmayM hm1_12 (zall_cons (Or.inr nbx_5) (zall_cons (Or.inr hm1) (zall_cons (Or.inr nby_5) (zall_cons (Or.inr hm2) zall_nil)))) hkp
        have dvy_12 : vy_12 ∈ ([] : List Nat) ∨ h vy_12 = none := zmayM hm2_12 (zall_cons (Or.inr nbx_5) (zall_cons (Or.inr hm1) (zall_cons (Or.inr nby_5) (zall_cons (Or.inr hm2) zall_nil)))) hkp
        have nvx_12 : h vx_12 = none := dvx_12.resolve_left List.not_mem_nil
        have nvy_12 : h vy_12 = none := dvy_12.resolve_left List.not_mem_nil
        have kh11 : zkeep h h11 [] := zkeep.loc hkp k13 (zall_cons (Or.inl (Or.symm (Or.inr nbx_5))) (zall_cons (Or.inl (Or.symm (Or.inr hm1))) (zall_cons (Or.inl (Or.symm (Or.inr nby_5))) (zall_cons (Or.inl (Or.symm (Or.inr hm2))) zall_nil))))
        have fh11_1 : h11 a2 = some (false, .inr (9, [.int (iI i), .ref lqq, .ref bx_5, .ref by_5, .ref c])) := k13.f hrwg
        have hx_14 := hb1_12
        obtain ⟨z_14, f_14, hb_14, hv_14, hlen_14, hcap_14, hcon_14, hfit_14, hasc_14⟩ := hx_14
        have hx_15 := hb2_12
        obtain ⟨z_15, f_15, hb_15, hv_15, hlen_15, hcap_15, hcon_15, hfit_15, hasc_15⟩ := hx_15
        show Z X h11 (2 * kcC (t.length + 12 * σ.sh.cs.length) + 4 * σ.sh.cs.length - 4 * rnn i fr k σ.sh.cs - wC (u2, l2) - (wC (rac t i to σ.sh.cs (u2, l2)) + 4 * rcn i to σ.sh.cs - wC (u2, l2))) (2 * kcS (t.length + 12 * σ.sh.cs.length) + 31 * σ.sh.cs.length - 31 * rnn i fr k σ.sh.cs - wS (u2, l2) - (wS (rac t i to σ.sh.cs (u2, l2)) + 31 * rcn i to σ.sh.cs - wS (u2, l2))) [(5, .int (iI k)), (4, .ref a2), (3, .int (iI to)), (2, .int (iI fr)), (1, .int (iI i)), (0, .ref c)] 51 []
        refine z_aload (pc := 51) (j := 1) C dX1_rows_51 rfl ?_
        exact z_areturn (pc := 53) C (Or.inl ⟨_, rfl⟩) (Or.inr ⟨_, rfl⟩) (by rw [hXp]; exact ⟨_, rfl, a2, lqq, bx_5, vx_12, by_5, vy_12, rfl, fh11_1, (by rw [hly2]; exact hb1_12), (by rw [hly2]; exact hb2_12), kh11⟩) dX1_rows_53
    · have hkt : k < to := by omega
      have hst0 : (u2, l2) = lco t i σ.sh.cs fr (k - fr).toNat := hst
      have hls0 : lco t i σ.sh.cs fr (k + 1 - fr).toNat = rco t i σ.sh.cs (u2, l2) k := by rw [hst0]; exact lco_s (by omega)
      have hlu := lay_u (T := t) (ln := i) rcr (fr := fr) (to := k + 1) (by omega)
      have hly := lco_lay (T := t) (ln := i) (cs := σ.sh.cs) (fr := fr) (to := k + 1)
      rw [hls0] at hly
      have hrm := rac_m t i k σ.sh.cs (u2, l2)
      have hrc : (rac t i k σ.sh.cs (u2, l2)).1.length ≤ (rco t i σ.sh.cs (u2, l2) k).1.length ∧ (rac t i k σ.sh.cs (u2, l2)).2.length ≤ (rco t i σ.sh.cs (u2, l2) k).2.length := ⟨Nat.le_refl _, by simp [rco]⟩
      have hrn0 := rnn_s (ln := i) (a := fr) (b := k) (by omega) σ.sh.cs
      have hrn1 := rnn_s (ln := i) (a := fr) (b := k + 1) (by omega) σ.sh.cs
      have hrn2 := rnn_le i fr (k + 1) σ.sh.cs
      have hrn3 := rnn_le i fr (k + 1 + 1) σ.sh.cs
      have hU : u2.length ≤ (rco t i σ.sh.cs (u2, l2) k).1.length := by have := hrm.1; simp only at this; omega
      have hV : l2.length ≤ (rco t i σ.sh.cs (u2, l2) k).2.length := by have := hrm.2; simp only at this; omega
      have hc1 : wC (u2, l2) ≤ wC (rco t i σ.sh.cs (u2, l2) k) := Nat.add_le_add (kc_m hU).1 (kc_m hV).1
      have hc2 : wS (u2, l2) ≤ wS (rco t i σ.sh.cs (u2, l2) k) := Nat.add_le_add (kc_m hU).2 (kc_m hV).2
      have hcR : wC (rco t i σ.sh.cs (u2, l2) k) ≤ 2 * kcC (t.length + 12 * σ.sh.cs.length) := by have h1 := kc_m (a := (rco t i σ.sh.cs (u2, l2) k).1.length) (b := (t.length + 12 * σ.sh.cs.length)) (by omega); have h2 := kc_m (a := (rco t i σ.sh.cs (u2, l2) k).2.length) (b := (t.length + 12 * σ.sh.cs.length)) (by omega); have h3 : wC (rco t i σ.sh.cs (u2, l2) k) = kcC (rco t i σ.sh.cs (u2, l2) k).1.length + kcC (rco t i σ.sh.cs (u2, l2) k).2.length := rfl; omega
      have hcS : wS (rco t i σ.sh.cs (u2, l2) k) ≤ 2 * kcS (t.length + 12 * σ.sh.cs.length) := by have h1 := kc_m (a := (rco t i σ.sh.cs (u2, l2) k).1.length) (b := (t.length + 12 * σ.sh.cs.length)) (by omega); have h2 := kc_m (a := (rco t i σ.sh.cs (u2, l2) k).2.length) (b := (t.length + 12 * σ.sh.cs.length)) (by omega); have h3 : wS (rco t i σ.sh.cs (u2, l2) k) = kcS (rco t i σ.sh.cs (u2, l2) k).1.length + kcS (rco t i σ.sh.cs (u2, l2) k).2.length := rfl; omega
      have hMc : (rco t i σ.sh.cs (u2, l2) k).1.length ≤ 1000 ∧ (rco t i σ.sh.cs (u2, l2) k).2.length ≤ 1000 := ⟨by omega, by omega⟩
      have hpe : ((rco t i σ.sh.cs (u2, l2) k).1, (rco t i σ.sh.cs (u2, l2) k).2) = (rco t i σ.sh.cs (u2, l2) k) := rfl
      have hpc1 : wC ((rco t i σ.sh.cs (u2, l2) k).1, (rco t i σ.sh.cs (u2, l2) k).2) = wC (rco t i σ.sh.cs (u2, l2) k) := rfl
      have hpc2 : wS ((rco t i σ.sh.cs (u2, l2) k).1, (rco t i σ.sh.cs (u2, l2) k).2) = wS (rco t i σ.sh.cs (u2, l2) k) := rfl
      refine z_aload (pc := 20) (j := 1) C dX1_rows_20 rfl ?_
      refine z_iload (pc := 22) (j := 0) C dX1_rows_22 rfl ?_
      refine z_callV (pc := 24) (n := 1) (kc' := (2 * kcC (t.length + 12 * σ.sh.cs.length) + 4 * σ.sh.cs.length - 4 * rnn i fr k σ.sh.cs - wC (u2, l2) - (wC (rco t i σ.sh.cs (u2, l2) k) + 4 * rcn i k σ.sh.cs - wC (u2, l2)))) (ks' := (2 * kcS (t.length + 12 * σ.sh.cs.length) + 31 * σ.sh.cs.length - 31 * rnn i fr k σ.sh.cs - wS (u2, l2) - (wS (rco t i σ.sh.cs (u2, l2) k) + 31 * rcn i k σ.sh.cs - wS (u2, l2)))) C (ct_W_addCol C.t hrwg (sAt.keep hkp hsq) hT hB1 hB2 hnb_5 hnx (hkp.n hc0 List.not_mem_nil) (hkp.n hsx List.not_mem_nil) (cqf hyl (hkp.n law List.not_mem_nil)) (hkp.n lew List.not_mem_nil) (clA.keep hkp hcl) ⟨by omega, by omega⟩ rcr (by omega) (k := k) (by omega) ⟨by omega, by omega⟩ hMc) (lw_V q1982 q1983 q1984 q106 q1985) (by decide +kernel) ⟨by decide, by decide⟩ hrwg rfl rfl rfl (Nat.le_of_ble_eq_true rfl) dX1_rows_24 (by omega) (by omega) (zrk fun w h16 hp => ?_) zrx
      obtain ⟨rfl, vx_17, vy_17, hb1_17, hb2_17, hm1_17, hm2_17, hne_17, k18⟩ := hp
      have dvx_17 : vx_17 ∈ ([] : List Nat) ∨ h vx_17 = none := zmayM hm1_17 (zall_cons (Or.inr nbx_5) (zall_cons (Or.inr hm1) (zall_cons (Or.inr nby_5) (zall_cons (Or.inr hm2) zall_nil)))) hkp
      have dvy_17 : vy_17 ∈ ([] : List Nat) ∨ h vy_17 = none := zmayM hm2_17 (zall_cons (Or.inr nbx_5) (zall_cons (Or.inr hm1) (zall_cons (Or.inr nby_5) (zall_cons (Or.inr hm2) zall_nil)))) hkp
      have nvx_17 : h vx_17 = none := dvx_17.resolve_left List.not_mem_nil
      have nvy_17 : h vy_17 = none := dvy_17.resolve_left List.not_mem_nil
      have kh16 : zkeep h h16 [] := zkeep.loc hkp k18 (zall_cons (Or.inl (Or.symm (Or.inr nbx_5))) (zall_cons (Or.inl (Or.symm (Or.inr hm1))) (zall_cons (Or.inl (Or.symm (Or.inr nby_5))) (zall_cons (Or.inl (Or.symm (Or.inr hm2))) zall_nil))))
      have fh16_1 : h16 a2 = some (false, .inr (9, [.int (iI i), .ref lqq, .ref bx_5, .ref by_5, .ref c])) := k18.f hrwg
      have hx_19 := hb1_17
      obtain ⟨z_19, f_19, hb_19, hv_19, hlen_19, hcap_19, hcon_19, hfit_19, hasc_19⟩ := hx_19
      have hx_20 := hb2_17
      obtain ⟨z_20, f_20, hb_20, hv_20, hlen_20, hcap_20, hcon_20, hfit_20, hasc_20⟩ := hx_20
      show Z X h16 (2 * kcC (t.length + 12 * σ.sh.cs.length) + 4 * σ.sh.cs.length - 4 * rnn i fr k σ.sh.cs - wC (u2, l2) - (wC (rco t i σ.sh.cs (u2, l2) k) + 4 * rcn i k σ.sh.cs - wC (u2, l2))) (2 * kcS (t.length + 12 * σ.sh.cs.length) + 31 * σ.sh.cs.length - 31 * rnn i fr k σ.sh.cs - wS (u2, l2) - (wS (rco t i σ.sh.cs (u2, l2) k) + 31 * rcn i k σ.sh.cs - wS (u2, l2))) [(5, .int (iI k)), (4, .ref a2), (3, .int (iI to)), (2, .int (iI fr)), (1, .int (iI i)), (0, .ref c)] 27 []
      refine z_iinc (pc := 27) (k := 0) (L' := [(5, .int (iI (k + 1))), (4, .ref a2), (3, .int (iI to)), (2, .int (iI fr)), (1, .int (iI i)), (0, .ref c)]) C dX1_rows_27 rfl (by rw [hnL]; decide) rfl ?_
      refine z_goto (pc := 30) (tgt := 14) C dX1_rows_30 (by decide) ?_
      refine Z.weak (L' := [(5, .int (iI (k + 1))), (4, .ref a2), (3, .int (iI to)), (2, .int (iI fr)), (1, .int (iI i)), (0, .ref c)]) (kc' := 2 * kcC (t.length + 12 * σ.sh.cs.length) + 4 * σ.sh.cs.length - 4 * rnn i fr (k + 1) σ.sh.cs - wC (((rco t i σ.sh.cs (u2, l2) k).1), ((rco t i σ.sh.cs (u2, l2) k).2))) (ks' := 2 * kcS (t.length + 12 * σ.sh.cs.length) + 31 * σ.sh.cs.length - 31 * rnn i fr (k + 1) σ.sh.cs - wS (((rco t i σ.sh.cs (u2, l2) k).1), ((rco t i σ.sh.cs (u2, l2) k).2))) [0, 1, 2, 3, 4, 5] rfl (by omega) (by omega) ?_
      exact ih14 _ (by omega) (k + 1) h16 ((rco t i σ.sh.cs (u2, l2) k).1) ((rco t i σ.sh.cs (u2, l2) k).2) vx_17 vy_17 (by omega) kh16 fh16_1 hls0.symm hb1_17 hb2_17 nvx_17 nvy_17 hne_17 rfl
  refine Z.weak (L' := [(5, .int (iI fr)), (4, .ref a2), (3, .int (iI to)), (2, .int (iI fr)), (1, .int (iI i)), (0, .ref c)]) (kc' := 2 * kcC (t.length + 12 * σ.sh.cs.length) + 4 * σ.sh.cs.length - 4 * rnn i fr fr σ.sh.cs - wC (([] : List Int), ([] : List Int))) (ks' := 2 * kcS (t.length + 12 * σ.sh.cs.length) + 31 * σ.sh.cs.length - 31 * rnn i fr fr σ.sh.cs - wS (([] : List Int), ([] : List Int))) [0, 1, 5, 4, 3, 2] rfl (by omega) (by omega) ?_
  exact loop14 _ fr h4 ([] : List Int) ([] : List Int) vx_5 vy_5 (by omega) kh4 hrw_5 (by rw [show (fr - fr).toNat = 0 by omega]; rfl) hb1_5 hb2_5 nvx_5 nvy_5 hnv_5 rfl
set_option maxHeartbeats 4000000 in
theorem op_pairs {l : Launch} (hl : l.stackTraces = false) {Γ : zCx} {h : zH} {c : Nat} {A : zWA} {σ : zSt} (hW : csW Γ h c A σ) {i : Int} {t : List Int} (hi : 0 ≤ i) (ht : σ.sh.ls[i.toNat]? = some t)  : zMet l yX1_pairs (ws_ yX1_pairs cX1_pairs 5 (some .int)) ({ frames := 12, cells := pmC (t.length + 2) t.length σ.sh.cs.length, slots := pmS (t.length + 2) t.length σ.sh.cs.length, locals := 267 }) Γ h [.ref c, .int (iI i)] (zrt (fun w h' => w = some (.int (iI (prs t i σ.sh.cs σ.wd))) ∧ zkeep h h' [])) (pmC (t.length + 2) t.length σ.sh.cs.length) (pmS (t.length + 2) t.length σ.sh.cs.length) := by
  refine zMet.of (cc := cX1_pairs) hl (plainFor_of_name (by decide +kernel)) (Nat.le_of_ble_eq_true rfl) ?_
  intro X hXl hXΓ hXp C hnm hnL
  have C : zC X cX1_pairs RX1 (some .int) 12 267 [] := C
  have hnL : X.2.1.2.2.2.2 = 5 := hnL
  subst hXl hXΓ
  show Z X h (pmC (t.length + 2) t.length σ.sh.cs.length) (pmS (t.length + 2) t.length σ.sh.cs.length) [(0, .ref c), (1, .int (iI i))] 0 []
  obtain ⟨⟨tf, hc0, htx, hch⟩, hdq, ⟨lq, kq, lys, ys, hsx, hfl, hls, hl0, hyc, hkx⟩, hhi, hnd, hR⟩ := id hW
  obtain ⟨rsi, rff, rwd, rtl, rtx, rsh, rhi, rhl⟩ := id hR
  obtain ⟨rcl, rcr, rll, rlt, rkt, rkm, rks⟩ := rsh
  have hll := hls.len
  have hyl := hyc.len
  obtain ⟨lm, le0, ln0, lf, hlq, hle, hln, hlN, hlx⟩ := id hfl
  have hxw := hl0
  obtain ⟨mw, fw, law, lew, lzw, ltw, lnw, lcw, lxw, lqw⟩ := hxw
  have hcl := hyc.cl lxw
  have hit := (List.getElem?_eq_some_iff.mp ht).1
  have hT := rlt _ (List.mem_of_getElem? ht)
  obtain ⟨lqq, hlqq, hsq⟩ := (hls).at ht
  obtain ⟨hl_1, v_1, x_1, y_1, g_1, h1_1, h2_1, h3_1, h4_1⟩ := id (hsq)
  have h1_1 : h (lqq) = some (false, .inr (13, [.ref v_1, .int (iI 0), .int x_1, .int y_1])) := h1_1
  have h4T : ∀ c ∈ t, 0 ≤ c ∧ c < 128 := by obtain ⟨-, v, x, y, f, -, -, -, z⟩ := id hsq; exact z
  refine z_aload_n (pc := 0) (j := 0) C dX1_pairs_0 rfl rfl ?_
  refine z_iload_n (pc := 1) (j := 1) C dX1_pairs_1 rfl rfl ?_
  refine z_callV (pc := 2) (n := 1) (kc' := (pmC (t.length + 2) t.length σ.sh.cs.length)) (ks' := (pmS (t.length + 2) t.length σ.sh.cs.length)) C (op_line C.t hW (i := i) (by omega) ht) (lw_V q1691 q1693 qs15 q63 q1694) (by decide +kernel) ⟨by decide, by decide⟩ hc0 rfl rfl rfl (Nat.le_of_ble_eq_true rfl) dX1_pairs_2 (by omega) (by omega) (zrk fun w h3 hp => ?_) zrx
  obtain ⟨q2, rfl, hs4, eh3⟩ := hp
  rw [eh3]
  show Z X h (pmC (t.length + 2) t.length σ.sh.cs.length) (pmS (t.length + 2) t.length σ.sh.cs.length) [(0, .ref c), (1, .int (iI i))] 5 [.ref q2]
  obtain ⟨hl_5, v_5, x_5, y_5, g_5, h1_5, h2_5, h3_5, h4_5⟩ := id (hs4)
  have h1_5 : h (q2) = some (false, .inr (13, [.ref v_5, .int (iI 0), .int x_5, .int y_5])) := h1_5
  refine z_callV (pc := 5) (n := 0) (kc' := (pmC (t.length + 2) t.length σ.sh.cs.length)) (ks' := (pmS (t.length + 2) t.length σ.sh.cs.length)) C (ct_S_length C.t hs4) (lw_V q1053 q468 q469 q83 q470) (by decide +kernel) ⟨by decide, by decide⟩ h1_5 rfl rfl rfl (Nat.le_of_ble_eq_true rfl) dX1_pairs_5 (by omega) (by omega) (zpk (st' := [.int (iI ((t.length : Nat) : Int))]) rfl ?_) zrx
  refine z_istore_n (pc := 8) (L' := [(2, .int (iI ((t.length : Nat) : Int))), (0, .ref c), (1, .int (iI i))]) C dX1_pairs_8 rfl (by rw [hnL]; decide) rfl ?_
  refine z_iconst (pc := 9) C dX1_pairs_9 ?_
  refine z_istore_n (pc := 10) (L' := [(3, .int (iI 1)), (2, .int (iI ((t.length : Nat) : Int))), (0, .ref c), (1, .int (iI i))]) C dX1_pairs_10 rfl (by rw [hnL]; decide) rfl ?_
  have hp0 := pm_st (a := t.length + 2) (b := t.length + 1) (L := t.length) (C := σ.sh.cs.length) (by omega)
  refine z_aload_n (pc := 11) (j := 2) C dX1_pairs_11 rfl rfl ?_
  refine z_iload_n (pc := 12) (j := 3) C dX1_pairs_12 rfl rfl ?_
  refine z_iconst (pc := 13) C dX1_pairs_13 ?_
  refine z_callV (pc := 14) (n := 2) (kc' := (pmC (t.length + 2) t.length σ.sh.cs.length - eC t.length σ.sh.cs.length)) (ks' := (pmS (t.length + 2) t.length σ.sh.cs.length - eS t.length σ.sh.cs.length)) C (op_endOf C.t hW (i := i) (by omega) ht (fr := 0) (by omega)) (lw_V q1949 q1951 qs21 q63 q1952) (by decide +kernel) ⟨by decide, by decide⟩ hc0 rfl rfl rfl (Nat.le_of_ble_eq_true rfl) dX1_pairs_14 (by omega) (by omega) (zrk fun w h6 hp => ?_) zrx
  obtain ⟨rfl, k7⟩ := hp
  have kh6 : zkeep h h6 [] := zkeep.loc zkeep.rf k7 zall_nil
  have ph6_1 : sAt h6 q2 t := sAt.keep k7 hs4
  have hebh6 := endo_b (T := t) (ln := i) (cs := σ.sh.cs) (wd := σ.wd) (fr := 0) (by omega)
  show Z X h6 (pmC (t.length + 2) t.length σ.sh.cs.length - eC t.length σ.sh.cs.length) (pmS (t.length + 2) t.length σ.sh.cs.length - eS t.length σ.sh.cs.length) [(3, .int (iI 1)), (2, .int (iI ((t.length : Nat) : Int))), (0, .ref c), (1, .int (iI i))] 17 [.int (iI (endo t i σ.sh.cs σ.wd 0))]
  have hpm := pm_m (a := t.length + 1) (b := t.length - (endo t i σ.sh.cs σ.wd 0).toNat) (L := t.length) (C := σ.sh.cs.length) (by omega)
  refine z_istore (pc := 17) (L' := [(4, .int (iI (endo t i σ.sh.cs σ.wd 0))), (3, .int (iI 1)), (2, .int (iI ((t.length : Nat) : Int))), (0, .ref c), (1, .int (iI i))]) C dX1_pairs_17 (by rw [hnL]; decide) rfl ?_
  have loop19 : ∀ (n19 : Nat) (n : Int) (e : Int) (g : zH), (0 ≤ e ∧ e ≤ (t.length : Nat)) → (0 ≤ n ∧ n ≤ e + 1) → (zkeep h g []) → (∃ f, (t.length : Nat) - e < ((f : Nat) : Int) ∧ pcg t i σ.sh.cs σ.wd f n e = prs t i σ.sh.cs σ.wd) → ((((t.length : Nat) : Int) - e).toNat) = n19 → Z X g (pmC (t.length - e.toNat) t.length σ.sh.cs.length) (pmS (t.length - e.toNat) t.length σ.sh.cs.length) [(4, .int (iI e)), (3, .int (iI n)), (2, .int (iI ((t.length : Nat) : Int))), (1, .int (iI i)), (0, .ref c)] 19 [] := by
    intro n19
    induction n19 using Nat.strongRecOn with
    | ind n19 ih19 =>
    intro n e g he hn hkp hd hn19
    refine z_iload (pc := 19) (j := 0) C dX1_pairs_19 rfl ?_
    refine z_iload_n (pc := 21) (j := 2) C dX1_pairs_21 rfl rfl ?_
    refine z_icmp_ge (pc := 22) (tgt := 40) C dX1_pairs_22 (by decide) (by omega) (by omega) (fun c22 => ?_) (fun c22 => ?_)
    · refine z_iload_n (pc := 40) (j := 1) C dX1_pairs_40 rfl rfl ?_
      exact z_ireturn (pc := 41) C (by rw [hXp]; exact ⟨_, rfl, (by obtain ⟨f0, hf0, hd0⟩ := hd; obtain ⟨f1, rfl⟩ : ∃ f1, f0 = f1 + 1 := ⟨f0 - 1, by omega⟩; rw [pcg, if_neg (by omega)] at hd0; rw [hd0]), hkp⟩) dX1_pairs_41
    · obtain ⟨f0, hf0, hd0⟩ := hd
      obtain ⟨f1, rfl⟩ : ∃ f1, f0 = f1 + 1 := ⟨f0 - 1, by omega⟩
      have heb := endo_b (T := t) (ln := i) (cs := σ.sh.cs) (wd := σ.wd) (fr := e) (by omega)
      have hp1 := pm_st (a := t.length - e.toNat) (b := t.length - (endo t i σ.sh.cs σ.wd e).toNat) (L := t.length) (C := σ.sh.cs.length) (by omega)
      refine z_iinc (pc := 25) (k := 1) (L' := [(3, .int (iI (n + 1))), (4, .int (iI e)), (2, .int (iI ((t.length : Nat) : Int))), (1, .int (iI i)), (0, .ref c)]) C dX1_pairs_25 rfl (by rw [hnL]; decide) rfl ?_
      refine z_aload_n (pc := 28) (j := 4) C dX1_pairs_28 rfl rfl ?_
      refine z_iload_n (pc := 29) (j := 3) C dX1_pairs_29 rfl rfl ?_
      refine z_iload (pc := 30) (j := 1) C dX1_pairs_30 rfl ?_
      refine z_callV (pc := 32) (n := 2) (kc' := (pmC (t.length - e.toNat) t.length σ.sh.cs.length - eC t.length σ.sh.cs.length)) (ks' := (pmS (t.length - e.toNat) t.length σ.sh.cs.length - eS t.length σ.sh.cs.length)) C (op_endOf C.t (hW.keep0 hkp) (i := i) (by omega) ht (fr := e) (by omega)) (lw_V q1949 q1951 qs21 q63 q1952) (by decide +kernel) ⟨by decide, by decide⟩ (hkp.n hc0 List.not_mem_nil) rfl rfl rfl (Nat.le_of_ble_eq_true rfl) dX1_pairs_32 (by omega) (by omega) (zrk fun w h8 hp => ?_) zrx
      obtain ⟨rfl, k9⟩ := hp
      have kh8 : zkeep h h8 [] := zkeep.loc hkp k9 zall_nil
      have hebh8 := endo_b (T := t) (ln := i) (cs := σ.sh.cs) (wd := σ.wd) (fr := e) (by omega)
      show Z X h8 (pmC (t.length - e.toNat) t.length σ.sh.cs.length - eC t.length σ.sh.cs.length) (pmS (t.length - e.toNat) t.length σ.sh.cs.length - eS t.length σ.sh.cs.length) [(3, .int (iI (n + 1))), (4, .int (iI e)), (2, .int (iI ((t.length : Nat) : Int))), (1, .int (iI i)), (0, .ref c)] 35 [.int (iI (endo t i σ.sh.cs σ.wd e))]
      refine z_istore (pc := 35) (L' := [(4, .int (iI (endo t i σ.sh.cs σ.wd e))), (3, .int (iI (n + 1))), (2, .int (iI ((t.length : Nat) : Int))), (1, .int (iI i)), (0, .ref c)]) C dX1_pairs_35 (by rw [hnL]; decide) rfl ?_
      refine z_goto (pc := 37) (tgt := 19) C dX1_pairs_37 (by decide) ?_
      refine Z.weak (L' := [(4, .int (iI (endo t i σ.sh.cs σ.wd e))), (3, .int (iI (n + 1))), (2, .int (iI ((t.length : Nat) : Int))), (1, .int (iI i)), (0, .ref c)]) (kc' := pmC (t.length - (endo t i σ.sh.cs σ.wd e).toNat) t.length σ.sh.cs.length) (ks' := pmS (t.length - (endo t i σ.sh.cs σ.wd e).toNat) t.length σ.sh.cs.length) [0, 1, 2, 3, 4] rfl (by omega) (by omega) ?_
      exact ih19 _ (by omega) (n + 1) (endo t i σ.sh.cs σ.wd e) h8 (by omega) (by omega) kh8 ⟨f1, by omega, by rw [pcg, if_pos (by omega)] at hd0; exact hd0⟩ rfl
  refine Z.weak (L' := [(4, .int (iI (endo t i σ.sh.cs σ.wd 0))), (3, .int (iI 1)), (2, .int (iI ((t.length : Nat) : Int))), (1, .int (iI i)), (0, .ref c)]) (kc' := pmC (t.length - (endo t i σ.sh.cs σ.wd 0).toNat) t.length σ.sh.cs.length) (ks' := pmS (t.length - (endo t i σ.sh.cs σ.wd 0).toNat) t.length σ.sh.cs.length) [0, 1, 2, 4, 3] rfl (by omega) (by omega) ?_
  exact loop19 _ 1 (endo t i σ.sh.cs σ.wd 0) h6 (by omega) (by omega) kh6 ⟨t.length + 1, by omega, rfl⟩ rfl
set_option maxHeartbeats 4000000 in
theorem op_pairs_b {l : Launch} (hl : l.stackTraces = false) {Γ : zCx} {h : zH} {c : Nat} {A : zWA} {σ : zSt} (hW : csW Γ h c A σ) {i : Int} (hi : -2147483648 ≤ i ∧ i ≤ 2147483647) (hb : ¬ (0 ≤ i ∧ i < (σ.sh.ls.length : Nat)))  : zMet l yX1_pairs (ws_ yX1_pairs cX1_pairs 5 (some .int)) ({ frames := 8, cells := 1, slots := 6, locals := 123 }) Γ h [.ref c, .int (iI i)] (zthp h "java/lang/IndexOutOfBoundsException") 1 6 := by
  refine zMet.of (cc := cX1_pairs) hl (plainFor_of_name (by decide +kernel)) (Nat.le_of_ble_eq_true rfl) ?_
  intro X hXl hXΓ hXp C hnm hnL
  have C : zC X cX1_pairs RX1 (some .int) 8 123 [] := C
  have hnL : X.2.1.2.2.2.2 = 5 := hnL
  subst hXl hXΓ
  show Z X h 1 6 [(0, .ref c), (1, .int (iI i))] 0 []
  obtain ⟨⟨tf, hc0, htx, hch⟩, hdq, ⟨lq, kq, lys, ys, hsx, hfl, hls, hl0, hyc, hkx⟩, hhi, hnd, hR⟩ := id hW
  obtain ⟨rsi, rff, rwd, rtl, rtx, rsh, rhi, rhl⟩ := id hR
  obtain ⟨rcl, rcr, rll, rlt, rkt, rkm, rks⟩ := rsh
  have hll := hls.len
  have hyl := hyc.len
  obtain ⟨lm, le0, ln0, lf, hlq, hle, hln, hlN, hlx⟩ := id hfl
  have hxw := hl0
  obtain ⟨mw, fw, law, lew, lzw, ltw, lnw, lcw, lxw, lqw⟩ := hxw
  have hcl := hyc.cl lxw
  refine z_aload_n (pc := 0) (j := 0) C dX1_pairs_0 rfl rfl ?_
  refine z_iload_n (pc := 1) (j := 1) C dX1_pairs_1 rfl rfl ?_
  refine z_callV (pc := 2) (n := 1) (kc' := 0) (ks' := 0) C (op_line_b C.t hW (i := i) (by omega) (by omega)) (lw_V q1691 q1693 qs15 q63 q1694) (by decide +kernel) ⟨by decide, by decide⟩ hc0 rfl rfl rfl (Nat.le_of_ble_eq_true rfl) dX1_pairs_2 (by omega) (by omega) zthk (zthx fun q2 h1 hp => ?_)
  rw [hp]
  exact zx_out C (fun x hx => nomatch hx) (by rw [hXp]; exact ⟨_, rfl, rfl⟩)
set_option maxHeartbeats 4000000 in
theorem op_pair {l : Launch} (hl : l.stackTraces = false) {Γ : zCx} {h : zH} {c : Nat} {A : zWA} {σ : zSt} (hW : csW Γ h c A σ) {i : Int} {t : List Int} (hi : 0 ≤ i) (ht : σ.sh.ls[i.toNat]? = some t) {p : Int} (hp : 0 ≤ p ∧ p ≤ 2147483647) (hex : p = 0 ∨ esq t i σ.sh.cs σ.wd p.toNat < (t.length : Nat))  : zMet l yX1_pair (ws_ yX1_pair cX1_pair 7 (some (.object "ChordSheet$Rows"))) ({ frames := 12, cells := pmC (t.length + 2) t.length σ.sh.cs.length, slots := pmS (t.length + 2) t.length σ.sh.cs.length, locals := 267 }) Γ h [.ref c, .int (iI i), .int (iI p)] (zrt (fun w h' => ∃ rw q b1 v1 b2 v2, w = some (.ref rw) ∧ h' rw = some (false, .inr (9, [.int (iI i), .ref q, .ref b1, .ref b2, .ref c])) ∧ bAt h' b1 v1 (lay t i σ.sh.cs (esq t i σ.sh.cs σ.wd p.toNat) (esq t i σ.sh.cs σ.wd (p.toNat + 1))).1 (kap (lay t i σ.sh.cs (esq t i σ.sh.cs σ.wd p.toNat) (esq t i σ.sh.cs σ.wd (p.toNat + 1))).1.length) ∧ bAt h' b2 v2 (lay t i σ.sh.cs (esq t i σ.sh.cs σ.wd p.toNat) (esq t i σ.sh.cs σ.wd (p.toNat + 1))).2 (kap (lay t i σ.sh.cs (esq t i σ.sh.cs σ.wd p.toNat) (esq t i σ.sh.cs σ.wd (p.toNat + 1))).2.length) ∧ zkeep h h' [])) (pmC (t.length + 2) t.length σ.sh.cs.length) (pmS (t.length + 2) t.length σ.sh.cs.length) := by
  refine zMet.of (cc := cX1_pair) hl (plainFor_of_name (by decide +kernel)) (Nat.le_of_ble_eq_true rfl) ?_
  intro X hXl hXΓ hXp C hnm hnL
  have C : zC X cX1_pair RX1 (some (.object "ChordSheet$Rows")) 12 267 [] := C
  have hnL : X.2.1.2.2.2.2 = 7 := hnL
  subst hXl hXΓ
  show Z X h (pmC (t.length + 2) t.length σ.sh.cs.length) (pmS (t.length + 2) t.length σ.sh.cs.length) [(0, .ref c), (1, .int (iI i)), (2, .int (iI p))] 0 []
  obtain ⟨⟨tf, hc0, htx, hch⟩, hdq, ⟨lq, kq, lys, ys, hsx, hfl, hls, hl0, hyc, hkx⟩, hhi, hnd, hR⟩ := id hW
  obtain ⟨rsi, rff, rwd, rtl, rtx, rsh, rhi, rhl⟩ := id hR
  obtain ⟨rcl, rcr, rll, rlt, rkt, rkm, rks⟩ := rsh
  have hll := hls.len
  have hyl := hyc.len
  obtain ⟨lm, le0, ln0, lf, hlq, hle, hln, hlN, hlx⟩ := id hfl
  have hxw := hl0
  obtain ⟨mw, fw, law, lew, lzw, ltw, lnw, lcw, lxw, lqw⟩ := hxw
  have hcl := hyc.cl lxw
  have hit := (List.getElem?_eq_some_iff.mp ht).1
  have hT := rlt _ (List.mem_of_getElem? ht)
  obtain ⟨lqq, hlqq, hsq⟩ := (hls).at ht
  obtain ⟨hl_1, v_1, x_1, y_1, g_1, h1_1, h2_1, h3_1, h4_1⟩ := id (hsq)
  have h1_1 : h (lqq) = some (false, .inr (13, [.ref v_1, .int (iI 0), .int x_1, .int y_1])) := h1_1
  have h4T : ∀ c ∈ t, 0 ≤ c ∧ c < 128 := by obtain ⟨-, v, x, y, f, -, -, -, z⟩ := id hsq; exact z
  refine z_aload_n (pc := 0) (j := 0) C dX1_pair_0 rfl rfl ?_
  refine z_getfield (pc := 1) (v := .ref A.cu.s) C in_X1 rfl 5 (by decide) q282 (fun _ z => z) hc0 rfl dX1_pair_1 ?_
  refine z_getfieldN (pc := 4) (v := .ref lq) C in_X2 rfl 0 (by decide) q167 (fun _ z => z) hsx rfl dX1_pair_4 ?_
  refine z_iload_n (pc := 7) (j := 1) C dX1_pair_7 rfl rfl ?_
  refine z_callV (pc := 8) (n := 1) (kc' := (pmC (t.length + 2) t.length σ.sh.cs.length)) (ks' := (pmS (t.length + 2) t.length σ.sh.cs.length)) C (ct_L_get C.t hlq hle (i := i) (by omega) (by omega) (hlx _ _ hlqq)) (lw_V q1038 q904 q905 q68 q906) (by decide +kernel) ⟨by decide, by decide⟩ hlq rfl rfl rfl (Nat.le_of_ble_eq_true rfl) dX1_pair_8 (by omega) (by omega) (zpk (st' := [.ref lqq]) rfl ?_) zrx
  refine z_castS (pc := 11) C q1633 rfl h1_1 dX1_pair_11 ?_
  refine z_callV (pc := 14) (n := 0) (kc' := (pmC (t.length + 2) t.length σ.sh.cs.length)) (ks' := (pmS (t.length + 2) t.length σ.sh.cs.length)) C (ct_S_length C.t hsq) (lw_V q1053 q468 q469 q83 q470) (by decide +kernel) ⟨by decide, by decide⟩ h1_1 rfl rfl rfl (Nat.le_of_ble_eq_true rfl) dX1_pair_14 (by omega) (by omega) (zpk (st' := [.int (iI ((t.length : Nat) : Int))]) rfl ?_) zrx
  refine z_istore_n (pc := 17) (L' := [(3, .int (iI ((t.length : Nat) : Int))), (0, .ref c), (1, .int (iI i)), (2, .int (iI p))]) C dX1_pair_17 rfl (by rw [hnL]; decide) rfl ?_
  refine z_iconst (pc := 18) C dX1_pair_18 ?_
  refine z_istore (pc := 19) (L' := [(4, .int (iI 0)), (3, .int (iI ((t.length : Nat) : Int))), (0, .ref c), (1, .int (iI i)), (2, .int (iI p))]) C dX1_pair_19 (by rw [hnL]; decide) rfl ?_
  have hp0 := pm_st (a := t.length + 2) (b := t.length + 1) (L := t.length) (C := σ.sh.cs.length) (by omega)
  refine z_aload_n (pc := 21) (j := 2) C dX1_pair_21 rfl rfl ?_
  refine z_iload_n (pc := 22) (j := 3) C dX1_pair_22 rfl rfl ?_
  refine z_iconst (pc := 23) C dX1_pair_23 ?_
  refine z_callV (pc := 24) (n := 2) (kc' := (pmC (t.length + 2) t.length σ.sh.cs.length - eC t.length σ.sh.cs.length)) (ks' := (pmS (t.length + 2) t.length σ.sh.cs.length - eS t.length σ.sh.cs.length)) C (op_endOf C.t hW (i := i) (by omega) ht (fr := 0) (by omega)) (lw_V q1949 q1951 qs21 q63 q1952) (by decide +kernel) ⟨by decide, by decide⟩ hc0 rfl rfl rfl (Nat.le_of_ble_eq_true rfl) dX1_pair_24 (by omega) (by omega) (zrk fun w h2 hp => ?_) zrx
  obtain ⟨rfl, k3⟩ := hp
  have kh2 : zkeep h h2 [] := zkeep.loc zkeep.rf k3 zall_nil
  have hebh2 := endo_b (T := t) (ln := i) (cs := σ.sh.cs) (wd := σ.wd) (fr := 0) (by omega)
  show Z X h2 (pmC (t.length + 2) t.length σ.sh.cs.length - eC t.length σ.sh.cs.length) (pmS (t.length + 2) t.length σ.sh.cs.length - eS t.length σ.sh.cs.length) [(4, .int (iI 0)), (3, .int (iI ((t.length : Nat) : Int))), (0, .ref c), (1, .int (iI i)), (2, .int (iI p))] 27 [.int (iI (endo t i σ.sh.cs σ.wd 0))]
  refine z_istore (pc := 27) (L' := [(5, .int (iI (endo t i σ.sh.cs σ.wd 0))), (4, .int (iI 0)), (3, .int (iI ((t.length : Nat) : Int))), (0, .ref c), (1, .int (iI i)), (2, .int (iI p))]) C dX1_pair_27 (by rw [hnL]; decide) rfl ?_
  have hpm := pm_m (a := t.length + 1) (b := t.length + 1 - (endo t i σ.sh.cs σ.wd 0).toNat) (L := t.length) (C := σ.sh.cs.length) (by omega)
  refine z_iconst (pc := 29) C dX1_pair_29 ?_
  refine z_istore (pc := 30) (L' := [(6, .int (iI 0)), (5, .int (iI (endo t i σ.sh.cs σ.wd 0))), (4, .int (iI 0)), (3, .int (iI ((t.length : Nat) : Int))), (0, .ref c), (1, .int (iI i)), (2, .int (iI p))]) C dX1_pair_30 (by rw [hnL]; decide) rfl ?_
  have loop32 : ∀ (n32 : Nat) (k : Int) (fr : Int) (e : Int) (g : zH), (0 ≤ k ∧ k ≤ p ∧ k ≤ e) → (zkeep h g []) → (fr = esq t i σ.sh.cs σ.wd k.toNat) → (e = esq t i σ.sh.cs σ.wd (k + 1).toNat) → (k = 0 ∨ k < p) → (e ≤ (t.length : Nat)) → ((p - k).toNat) = n32 → Z X g (pmC (t.length + 1 - e.toNat) t.length σ.sh.cs.length) (pmS (t.length + 1 - e.toNat) t.length σ.sh.cs.length) [(6, .int (iI k)), (5, .int (iI e)), (4, .int (iI fr)), (3, .int (iI ((t.length : Nat) : Int))), (2, .int (iI p)), (1, .int (iI i)), (0, .ref c)] 32 [] := by
    intro n32
    induction n32 using Nat.strongRecOn with
    | ind n32 ih32 =>
    intro k fr e g hk hkp hf1 hf2 hk0 hel hn32
    refine z_iload (pc := 32) (j := 0) C dX1_pair_32 rfl ?_
    refine z_iload_n (pc := 34) (j := 4) C dX1_pair_34 rfl rfl ?_
    refine z_icmp_ge (pc := 35) (tgt := 81) C dX1_pair_35 (by decide) (by omega) (by omega) (fun c35 => ?_) (fun c35 => ?_)
    · have heb9 := esq_b t i σ.sh.cs σ.wd k.toNat
      rw [← hf1] at heb9
      have heb8 := esq_b t i σ.sh.cs σ.wd (k + 1).toNat
      rw [← hf2] at heb8
      have hff := esq_m t i σ.sh.cs σ.wd k.toNat
      rw [← hf1, show k.toNat + 1 = (k + 1).toNat by omega, ← hf2] at hff
      have hp1 := pm_st (a := t.length + 1 - e.toNat) (b := t.length - e.toNat) (L := t.length) (C := σ.sh.cs.length) (by omega)
      refine z_iload_n (pc := 81) (j := 4) C dX1_pair_81 rfl rfl ?_
      refine z_if_ne (pc := 82) (tgt := 97) C dX1_pair_82 (by decide) (by omega) (fun c82 => by exfalso; have hle : k + 1 ≤ p := (by omega); have hx := esq_e (T := t) (ln := i) (cs := σ.sh.cs) (wd := σ.wd) (i := (k + 1).toNat) (j := p.toNat) (by omega) (by rw [← hf2]; omega); omega) (fun c82 => ?_)
      refine z_aload_n (pc := 85) (j := 6) C dX1_pair_85 rfl rfl ?_
      refine z_iload_n (pc := 86) (j := 5) C dX1_pair_86 rfl rfl ?_
      refine z_iload (pc := 87) (j := 2) C dX1_pair_87 rfl ?_
      refine z_iload (pc := 89) (j := 1) C dX1_pair_89 rfl ?_
      refine z_callV (pc := 91) (n := 3) (kc' := (pmC (t.length + 1 - e.toNat) t.length σ.sh.cs.length - eC t.length σ.sh.cs.length)) (ks' := (pmS (t.length + 1 - e.toNat) t.length σ.sh.cs.length - eS t.length σ.sh.cs.length)) C (op_rows C.t (hW.keep0 hkp) (i := i) (by omega) ht (fr := fr) (to := e) (by omega)) (lw_V q2032 q2034 qs26 q63 q2035) (by decide +kernel) ⟨by decide, by decide⟩ (hkp.n hc0 List.not_mem_nil) rfl rfl rfl (Nat.le_of_ble_eq_true rfl) dX1_pair_91 (by omega) (by omega) (zrk fun w h4 hp => ?_) zrx
      obtain ⟨rw_5, q_5, b_5, v_5, d_5, u_5, rfl, hrw_5, hb1_5, hb2_5, k6⟩ := hp
      have kh4 : zkeep h h4 [] := zkeep.loc hkp k6 zall_nil
      show Z X h4 (pmC (t.length + 1 - e.toNat) t.length σ.sh.cs.length - eC t.length σ.sh.cs.length) (pmS (t.length + 1 - e.toNat) t.length σ.sh.cs.length - eS t.length σ.sh.cs.length) [(6, .int (iI k)), (5, .int (iI e)), (4, .int (iI fr)), (3, .int (iI ((t.length : Nat) : Int))), (2, .int (iI p)), (1, .int (iI i)), (0, .ref c)] 94 [.ref rw_5]
      refine z_goto (pc := 94) (tgt := 98) C dX1_pair_94 (by decide) ?_
      have hLe : (lay t i σ.sh.cs (esq t i σ.sh.cs σ.wd p.toNat) (esq t i σ.sh.cs σ.wd (p.toNat + 1))) = (lay t i σ.sh.cs fr e) := by rw [show p.toNat = k.toNat by omega, ← hf1, show k.toNat + 1 = (k + 1).toNat by omega, ← hf2]
      exact z_areturn (pc := 98) C (Or.inl ⟨_, rfl⟩) (Or.inr ⟨_, rfl⟩) (by rw [hXp]; exact ⟨_, rfl, rw_5, q_5, b_5, v_5, d_5, u_5, rfl, hrw_5, (by rw [hLe]; exact hb1_5), (by rw [hLe]; exact hb2_5), kh4⟩) dX1_pair_98
    · refine z_iload (pc := 38) (j := 1) C dX1_pair_38 rfl ?_
      refine z_iload_n (pc := 40) (j := 3) C dX1_pair_40 rfl rfl ?_
      refine z_icmp_ge (pc := 41) (tgt := 81) C dX1_pair_41 (by decide) (by omega) (by omega) (fun c41 => ?_) (fun c41 => ?_)
      · have heb9 := esq_b t i σ.sh.cs σ.wd k.toNat
        rw [← hf1] at heb9
        have heb8 := esq_b t i σ.sh.cs σ.wd (k + 1).toNat
        rw [← hf2] at heb8
        have hff := esq_m t i σ.sh.cs σ.wd k.toNat
        rw [← hf1, show k.toNat + 1 = (k + 1).toNat by omega, ← hf2] at hff
        have hp1 := pm_st (a := t.length + 1 - e.toNat) (b := t.length - e.toNat) (L := t.length) (C := σ.sh.cs.length) (by omega)
        refine z_iload_n (pc := 81) (j := 4) C dX1_pair_81 rfl rfl ?_
        refine z_if_ne (pc := 82) (tgt := 97) C dX1_pair_82 (by decide) (by omega) (fun c82 => by exfalso; have hle : k + 1 ≤ p := (by omega); have hx := esq_e (T := t) (ln := i) (cs := σ.sh.cs) (wd := σ.wd) (i := (k + 1).toNat) (j := p.toNat) (by omega) (by rw [← hf2]; omega); omega) (fun c82 => ?_)
        refine z_aload_n (pc := 85) (j := 6) C dX1_pair_85 rfl rfl ?_
        refine z_iload_n (pc := 86) (j := 5) C dX1_pair_86 rfl rfl ?_
        refine z_iload (pc := 87) (j := 2) C dX1_pair_87 rfl ?_
        refine z_iload (pc := 89) (j := 1) C dX1_pair_89 rfl ?_
        refine z_callV (pc := 91) (n := 3) (kc' := (pmC (t.length + 1 - e.toNat) t.length σ.sh.cs.length - eC t.length σ.sh.cs.length)) (ks' := (pmS (t.length + 1 - e.toNat) t.length σ.sh.cs.length - eS t.length σ.sh.cs.length)) C (op_rows C.t (hW.keep0 hkp) (i := i) (by omega) ht (fr := fr) (to := e) (by omega)) (lw_V q2032 q2034 qs26 q63 q2035) (by decide +kernel) ⟨by decide, by decide⟩ (hkp.n hc0 List.not_mem_nil) rfl rfl rfl (Nat.le_of_ble_eq_true rfl) dX1_pair_91 (by omega) (by omega) (zrk fun w h7 hp => ?_) zrx
        obtain ⟨rw_8, q_8, b_8, v_8, d_8, u_8, rfl, hrw_8, hb1_8, hb2_8, k9⟩ := hp
        have kh7 : zkeep h h7 [] := zkeep.loc hkp k9 zall_nil
        show Z X h7 (pmC (t.length + 1 - e.toNat) t.length σ.sh.cs.length - eC t.length σ.sh.cs.length) (pmS (t.length + 1 - e.toNat) t.length σ.sh.cs.length - eS t.length σ.sh.cs.length) [(6, .int (iI k)), (5, .int (iI e)), (4, .int (iI fr)), (3, .int (iI ((t.length : Nat) : Int))), (2, .int (iI p)), (1, .int (iI i)), (0, .ref c)] 94 [.ref rw_8]
        refine z_goto (pc := 94) (tgt := 98) C dX1_pair_94 (by decide) ?_
        have hLe : (lay t i σ.sh.cs (esq t i σ.sh.cs σ.wd p.toNat) (esq t i σ.sh.cs σ.wd (p.toNat + 1))) = (lay t i σ.sh.cs fr e) := by rw [show p.toNat = k.toNat by omega, ← hf1, show k.toNat + 1 = (k + 1).toNat by omega, ← hf2]
        exact z_areturn (pc := 98) C (Or.inl ⟨_, rfl⟩) (Or.inr ⟨_, rfl⟩) (by rw [hXp]; exact ⟨_, rfl, rw_8, q_8, b_8, v_8, d_8, u_8, rfl, hrw_8, (by rw [hLe]; exact hb1_8), (by rw [hLe]; exact hb2_8), kh7⟩) dX1_pair_98
      · have heb0 := esq_b t i σ.sh.cs σ.wd (k + 1).toNat
        rw [← hf2] at heb0
        have heb := endo_b (T := t) (ln := i) (cs := σ.sh.cs) (wd := σ.wd) (fr := e) (by omega)
        have hp1 := pm_st (a := t.length + 1 - e.toNat) (b := t.length - e.toNat) (L := t.length) (C := σ.sh.cs.length) (by omega)
        have hp2 := pm_st (a := t.length - e.toNat) (b := t.length - e.toNat - 1) (L := t.length) (C := σ.sh.cs.length) (by omega)
        have hp3 := pm_m (a := t.length - e.toNat) (b := t.length + 1 - (endo t i σ.sh.cs σ.wd e).toNat) (L := t.length) (C := σ.sh.cs.length) (by omega)
        refine z_iload (pc := 44) (j := 1) C dX1_pair_44 rfl ?_
        refine z_istore (pc := 46) (L' := [(4, .int (iI e)), (6, .int (iI k)), (5, .int (iI e)), (3, .int (iI ((t.length : Nat) : Int))), (2, .int (iI p)), (1, .int (iI i)), (0, .ref c)]) C dX1_pair_46 (by rw [hnL]; decide) rfl ?_
        refine z_aload_n (pc := 48) (j := 6) C dX1_pair_48 rfl rfl ?_
        refine z_iload_n (pc := 49) (j := 5) C dX1_pair_49 rfl rfl ?_
        refine z_iload (pc := 50) (j := 0) C dX1_pair_50 rfl ?_
        refine z_callV (pc := 52) (n := 2) (kc' := (pmC (t.length + 1 - e.toNat) t.length σ.sh.cs.length - eC t.length σ.sh.cs.length)) (ks' := (pmS (t.length + 1 - e.toNat) t.length σ.sh.cs.length - eS t.length σ.sh.cs.length)) C (op_endOf C.t (hW.keep0 hkp) (i := i) (by omega) ht (fr := e) (by omega)) (lw_V q1949 q1951 qs21 q63 q1952) (by decide +kernel) ⟨by decide, by decide⟩ (hkp.n hc0 List.not_mem_nil) rfl rfl rfl (Nat.le_of_ble_eq_true rfl) dX1_pair_52 (by omega) (by omega) (zrk fun w h10 hp => ?_) zrx
        obtain ⟨rfl, k11⟩ := hp
        have kh10 : zkeep h h10 [] := zkeep.loc hkp k11 zall_nil
        have hebh10 := endo_b (T := t) (ln := i) (cs := σ.sh.cs) (wd := σ.wd) (fr := e) (by omega)
        show Z X h10 (pmC (t.length + 1 - e.toNat) t.length σ.sh.cs.length - eC t.length σ.sh.cs.length) (pmS (t.length + 1 - e.toNat) t.length σ.sh.cs.length - eS t.length σ.sh.cs.length) [(4, .int (iI e)), (6, .int (iI k)), (5, .int (iI e)), (3, .int (iI ((t.length : Nat) : Int))), (2, .int (iI p)), (1, .int (iI i)), (0, .ref c)] 55 [.int (iI (endo t i σ.sh.cs σ.wd e))]
        refine z_istore (pc := 55) (L' := [(5, .int (iI (endo t i σ.sh.cs σ.wd e))), (4, .int (iI e)), (6, .int (iI k)), (3, .int (iI ((t.length : Nat) : Int))), (2, .int (iI p)), (1, .int (iI i)), (0, .ref c)]) C dX1_pair_55 (by rw [hnL]; decide) rfl ?_
        refine z_iload (pc := 57) (j := 2) C dX1_pair_57 rfl ?_
        refine z_iconst (pc := 59) C dX1_pair_59 ?_
        refine z_iadd (pc := 60) C dX1_pair_60 ?_
        refine z_iload_n (pc := 61) (j := 4) C dX1_pair_61 rfl rfl ?_
        refine z_icmp_ne (pc := 62) (tgt := 75) C dX1_pair_62 (by decide) (by omega) (by omega) (fun c62 => ?_) (fun c62 => ?_)
        · refine z_iinc (pc := 75) (k := 2) (L' := [(6, .int (iI (k + 1))), (5, .int (iI (endo t i σ.sh.cs σ.wd e))), (4, .int (iI e)), (3, .int (iI ((t.length : Nat) : Int))), (2, .int (iI p)), (1, .int (iI i)), (0, .ref c)]) C dX1_pair_75 rfl (by rw [hnL]; decide) rfl ?_
          refine z_goto (pc := 78) (tgt := 32) C dX1_pair_78 (by decide) ?_
          refine Z.weak (L' := [(6, .int (iI (k + 1))), (5, .int (iI (endo t i σ.sh.cs σ.wd e))), (4, .int (iI e)), (3, .int (iI ((t.length : Nat) : Int))), (2, .int (iI p)), (1, .int (iI i)), (0, .ref c)]) (kc' := pmC (t.length + 1 - (endo t i σ.sh.cs σ.wd e).toNat) t.length σ.sh.cs.length) (ks' := pmS (t.length + 1 - (endo t i σ.sh.cs σ.wd e).toNat) t.length σ.sh.cs.length) [0, 1, 2, 3, 4, 5, 6] rfl (by omega) (by omega) ?_
          exact ih32 _ (by omega) (k + 1) e (endo t i σ.sh.cs σ.wd e) h10 (by omega) kh10 hf2 (by rw [show (k + 1 + 1).toNat = (k + 1).toNat + 1 by omega, esq, ← hf2]) (by omega) (by omega) rfl
        · refine z_aload_n (pc := 65) (j := 6) C dX1_pair_65 rfl rfl ?_
          refine z_iload_n (pc := 66) (j := 5) C dX1_pair_66 rfl rfl ?_
          refine z_iload (pc := 67) (j := 1) C dX1_pair_67 rfl ?_
          refine z_iload (pc := 69) (j := 0) C dX1_pair_69 rfl ?_
          refine z_callV (pc := 71) (n := 3) (kc' := ((pmC (t.length + 1 - e.toNat) t.length σ.sh.cs.length - eC t.length σ.sh.cs.length) - eC t.length σ.sh.cs.length)) (ks' := ((pmS (t.length + 1 - e.toNat) t.length σ.sh.cs.length - eS t.length σ.sh.cs.length) - eS t.length σ.sh.cs.length)) C (op_rows C.t (hW.keep0 kh10) (i := i) (by omega) ht (fr := e) (to := endo t i σ.sh.cs σ.wd e) (by omega)) (lw_V q2032 q2034 qs26 q63 q2035) (by decide +kernel) ⟨by decide, by decide⟩ (kh10.n hc0 List.not_mem_nil) rfl rfl rfl (Nat.le_of_ble_eq_true rfl) dX1_pair_71 (by omega) (by omega) (zrk fun w h12 hp => ?_) zrx
          obtain ⟨rw_13, q_13, b_13, v_13, d_13, u_13, rfl, hrw_13, hb1_13, hb2_13, k14⟩ := hp
          have kh12 : zkeep h h12 [] := zkeep.loc kh10 k14 zall_nil
          show Z X h12 ((pmC (t.length + 1 - e.toNat) t.length σ.sh.cs.length - eC t.length σ.sh.cs.length) - eC t.length σ.sh.cs.length) ((pmS (t.length + 1 - e.toNat) t.length σ.sh.cs.length - eS t.length σ.sh.cs.length) - eS t.length σ.sh.cs.length) [(5, .int (iI (endo t i σ.sh.cs σ.wd e))), (4, .int (iI e)), (6, .int (iI k)), (3, .int (iI ((t.length : Nat) : Int))), (2, .int (iI p)), (1, .int (iI i)), (0, .ref c)] 74 [.ref rw_13]
          have hLe : (lay t i σ.sh.cs (esq t i σ.sh.cs σ.wd p.toNat) (esq t i σ.sh.cs σ.wd (p.toNat + 1))) = (lay t i σ.sh.cs e (endo t i σ.sh.cs σ.wd e)) := by rw [show p.toNat = (k + 1).toNat by omega, esq, ← hf2]
          exact z_areturn (pc := 74) C (Or.inl ⟨_, rfl⟩) (Or.inr ⟨_, rfl⟩) (by rw [hXp]; exact ⟨_, rfl, rw_13, q_13, b_13, v_13, d_13, u_13, rfl, hrw_13, (by rw [hLe]; exact hb1_13), (by rw [hLe]; exact hb2_13), kh12⟩) dX1_pair_74
  refine Z.weak (L' := [(6, .int (iI 0)), (5, .int (iI (endo t i σ.sh.cs σ.wd 0))), (4, .int (iI 0)), (3, .int (iI ((t.length : Nat) : Int))), (2, .int (iI p)), (1, .int (iI i)), (0, .ref c)]) (kc' := pmC (t.length + 1 - (endo t i σ.sh.cs σ.wd 0).toNat) t.length σ.sh.cs.length) (ks' := pmS (t.length + 1 - (endo t i σ.sh.cs σ.wd 0).toNat) t.length σ.sh.cs.length) [0, 1, 2, 3, 6, 5, 4] rfl (by omega) (by omega) ?_
  exact loop32 _ 0 0 (endo t i σ.sh.cs σ.wd 0) h2 (by omega) kh2 rfl rfl (Or.inl rfl) (by omega) rfl
set_option maxHeartbeats 4000000 in
theorem op_pair_n {l : Launch} (hl : l.stackTraces = false) {Γ : zCx} {h : zH} {c : Nat} {A : zWA} {σ : zSt} (hW : csW Γ h c A σ) {i : Int} {t : List Int} (hi : 0 ≤ i) (ht : σ.sh.ls[i.toNat]? = some t) {p : Int} (hp : 0 ≤ p ∧ p ≤ 2147483647) (hex : ¬ (p = 0 ∨ esq t i σ.sh.cs σ.wd p.toNat < (t.length : Nat)))  : zMet l yX1_pair (ws_ yX1_pair cX1_pair 7 (some (.object "ChordSheet$Rows"))) ({ frames := 12, cells := pmC (t.length + 2) t.length σ.sh.cs.length, slots := pmS (t.length + 2) t.length σ.sh.cs.length, locals := 267 }) Γ h [.ref c, .int (iI i), .int (iI p)] (zrt (fun w h' => w = some .null ∧ zkeep h h' [])) (pmC (t.length + 2) t.length σ.sh.cs.length) (pmS (t.length + 2) t.length σ.sh.cs.length) := by
  refine zMet.of (cc := cX1_pair) hl (plainFor_of_name (by decide +kernel)) (Nat.le_of_ble_eq_true rfl) ?_
  intro X hXl hXΓ hXp C hnm hnL
  have C : zC X cX1_pair RX1 (some (.object "ChordSheet$Rows")) 12 267 [] := C
  have hnL : X.2.1.2.2.2.2 = 7 := hnL
  subst hXl hXΓ
  show Z X h (pmC (t.length + 2) t.length σ.sh.cs.length) (pmS (t.length + 2) t.length σ.sh.cs.length) [(0, .ref c), (1, .int (iI i)), (2, .int (iI p))] 0 []
  obtain ⟨⟨tf, hc0, htx, hch⟩, hdq, ⟨lq, kq, lys, ys, hsx, hfl, hls, hl0, hyc, hkx⟩, hhi, hnd, hR⟩ := id hW
  obtain ⟨rsi, rff, rwd, rtl, rtx, rsh, rhi, rhl⟩ := id hR
  obtain ⟨rcl, rcr, rll, rlt, rkt, rkm, rks⟩ := rsh
  have hll := hls.len
  have hyl := hyc.len
  obtain ⟨lm, le0, ln0, lf, hlq, hle, hln, hlN, hlx⟩ := id hfl
  have hxw := hl0
  obtain ⟨mw, fw, law, lew, lzw, ltw, lnw, lcw, lxw, lqw⟩ := hxw
  have hcl := hyc.cl lxw
  have hit := (List.getElem?_eq_some_iff.mp ht).1
  have hT := rlt _ (List.mem_of_getElem? ht)
  obtain ⟨lqq, hlqq, hsq⟩ := (hls).at ht
  obtain ⟨hl_1, v_1, x_1, y_1, g_1, h1_1, h2_1, h3_1, h4_1⟩ := id (hsq)
  have h1_1 : h (lqq) = some (false, .inr (13, [.ref v_1, .int (iI 0), .int x_1, .int y_1])) := h1_1
  have h4T : ∀ c ∈ t, 0 ≤ c ∧ c < 128 := by obtain ⟨-, v, x, y, f, -, -, -, z⟩ := id hsq; exact z
  refine z_aload_n (pc := 0) (j := 0) C dX1_pair_0 rfl rfl ?_
  refine z_getfield (pc := 1) (v := .ref A.cu.s) C in_X1 rfl 5 (by decide) q282 (fun _ z => z) hc0 rfl dX1_pair_1 ?_
  refine z_getfieldN (pc := 4) (v := .ref lq) C in_X2 rfl 0 (by decide) q167 (fun _ z => z) hsx rfl dX1_pair_4 ?_
  refine z_iload_n (pc := 7) (j := 1) C dX1_pair_7 rfl rfl ?_
  refine z_callV (pc := 8) (n := 1) (kc' := (pmC (t.length + 2) t.length σ.sh.cs.length)) (ks' := (pmS (t.length + 2) t.length σ.sh.cs.length)) C (ct_L_get C.t hlq hle (i := i) (by omega) (by omega) (hlx _ _ hlqq)) (lw_V q1038 q904 q905 q68 q906) (by decide +kernel) ⟨by decide, by decide⟩ hlq rfl rfl rfl (Nat.le_of_ble_eq_true rfl) dX1_pair_8 (by omega) (by omega) (zpk (st' := [.ref lqq]) rfl ?_) zrx
  refine z_castS (pc := 11) C q1633 rfl h1_1 dX1_pair_11 ?_
  refine z_callV (pc := 14) (n := 0) (kc' := (pmC (t.length + 2) t.length σ.sh.cs.length)) (ks' := (pmS (t.length + 2) t.length σ.sh.cs.length)) C (ct_S_length C.t hsq) (lw_V q1053 q468 q469 q83 q470) (by decide +kernel) ⟨by decide, by decide⟩ h1_1 rfl rfl rfl (Nat.le_of_ble_eq_true rfl) dX1_pair_14 (by omega) (by omega) (zpk (st' := [.int (iI ((t.length : Nat) : Int))]) rfl ?_) zrx
  refine z_istore_n (pc := 17) (L' := [(3, .int (iI ((t.length : Nat) : Int))), (0, .ref c), (1, .int (iI i)), (2, .int (iI p))]) C dX1_pair_17 rfl (by rw [hnL]; decide) rfl ?_
  refine z_iconst (pc := 18) C dX1_pair_18 ?_
  refine z_istore (pc := 19) (L' := [(4, .int (iI 0)), (3, .int (iI ((t.length : Nat) : Int))), (0, .ref c), (1, .int (iI i)), (2, .int (iI p))]) C dX1_pair_19 (by rw [hnL]; decide) rfl ?_
  have hp0 := pm_st (a := t.length + 2) (b := t.length + 1) (L := t.length) (C := σ.sh.cs.length) (by omega)
  refine z_aload_n (pc := 21) (j := 2) C dX1_pair_21 rfl rfl ?_
  refine z_iload_n (pc := 22) (j := 3) C dX1_pair_22 rfl rfl ?_
  refine z_iconst (pc := 23) C dX1_pair_23 ?_
  refine z_callV (pc := 24) (n := 2) (kc' := (pmC (t.length + 2) t.length σ.sh.cs.length - eC t.length σ.sh.cs.length)) (ks' := (pmS (t.length + 2) t.length σ.sh.cs.length - eS t.length σ.sh.cs.length)) C (op_endOf C.t hW (i := i) (by omega) ht (fr := 0) (by omega)) (lw_V q1949 q1951 qs21 q63 q1952) (by decide +kernel) ⟨by decide, by decide⟩ hc0 rfl rfl rfl (Nat.le_of_ble_eq_true rfl) dX1_pair_24 (by omega) (by omega) (zrk fun w h2 hp => ?_) zrx
  obtain ⟨rfl, k3⟩ := hp
  have kh2 : zkeep h h2 [] := zkeep.loc zkeep.rf k3 zall_nil
  have hebh2 := endo_b (T := t) (ln := i) (cs := σ.sh.cs) (wd := σ.wd) (fr := 0) (by omega)
  show Z X h2 (pmC (t.length + 2) t.length σ.sh.cs.length - eC t.length σ.sh.cs.length) (pmS (t.length + 2) t.length σ.sh.cs.length - eS t.length σ.sh.cs.length) [(4, .int (iI 0)), (3, .int (iI ((t.length : Nat) : Int))), (0, .ref c), (1, .int (iI i)), (2, .int (iI p))] 27 [.int (iI (endo t i σ.sh.cs σ.wd 0))]
  refine z_istore (pc := 27) (L' := [(5, .int (iI (endo t i σ.sh.cs σ.wd 0))), (4, .int (iI 0)), (3, .int (iI ((t.length : Nat) : Int))), (0, .ref c), (1, .int (iI i)), (2, .int (iI p))]) C dX1_pair_27 (by rw [hnL]; decide) rfl ?_
  have hpm := pm_m (a := t.length + 1) (b := t.length + 1 - (endo t i σ.sh.cs σ.wd 0).toNat) (L := t.length) (C := σ.sh.cs.length) (by omega)
  refine z_iconst (pc := 29) C dX1_pair_29 ?_
  refine z_istore (pc := 30) (L' := [(6, .int (iI 0)), (5, .int (iI (endo t i σ.sh.cs σ.wd 0))), (4, .int (iI 0)), (3, .int (iI ((t.length : Nat) : Int))), (0, .ref c), (1, .int (iI i)), (2, .int (iI p))]) C dX1_pair_30 (by rw [hnL]; decide) rfl ?_
  have loop32 : ∀ (n32 : Nat) (k : Int) (fr : Int) (e : Int) (g : zH), (0 ≤ k ∧ k ≤ p ∧ k ≤ e) → (zkeep h g []) → (fr = esq t i σ.sh.cs σ.wd k.toNat) → (e = esq t i σ.sh.cs σ.wd (k + 1).toNat) → (k = 0 ∨ k < p) → (e ≤ (t.length : Nat)) → ((p - k).toNat) = n32 → Z X g (pmC (t.length + 1 - e.toNat) t.length σ.sh.cs.length) (pmS (t.length + 1 - e.toNat) t.length σ.sh.cs.length) [(6, .int (iI k)), (5, .int (iI e)), (4, .int (iI fr)), (3, .int (iI ((t.length : Nat) : Int))), (2, .int (iI p)), (1, .int (iI i)), (0, .ref c)] 32 [] := by
    intro n32
    induction n32 using Nat.strongRecOn with
    | ind n32 ih32 =>
    intro k fr e g hk hkp hf1 hf2 hk0 hel hn32
    refine z_iload (pc := 32) (j := 0) C dX1_pair_32 rfl ?_
    refine z_iload_n (pc := 34) (j := 4) C dX1_pair_34 rfl rfl ?_
    refine z_icmp_ge (pc := 35) (tgt := 81) C dX1_pair_35 (by decide) (by omega) (by omega) (fun c35 => ?_) (fun c35 => ?_)
    · have heb9 := esq_b t i σ.sh.cs σ.wd k.toNat
      rw [← hf1] at heb9
      have heb8 := esq_b t i σ.sh.cs σ.wd (k + 1).toNat
      rw [← hf2] at heb8
      have hff := esq_m t i σ.sh.cs σ.wd k.toNat
      rw [← hf1, show k.toNat + 1 = (k + 1).toNat by omega, ← hf2] at hff
      have hp1 := pm_st (a := t.length + 1 - e.toNat) (b := t.length - e.toNat) (L := t.length) (C := σ.sh.cs.length) (by omega)
      refine z_iload_n (pc := 81) (j := 4) C dX1_pair_81 rfl rfl ?_
      refine z_if_ne (pc := 82) (tgt := 97) C dX1_pair_82 (by decide) (by omega) (fun c82 => ?_) (fun c82 => by exfalso; omega)
      refine z_null (pc := 97) C dX1_pair_97 ?_
      exact z_areturn (pc := 98) C (Or.inl ⟨_, rfl⟩) (Or.inl rfl) (by rw [hXp]; exact ⟨_, rfl, rfl, hkp⟩) dX1_pair_98
    · refine z_iload (pc := 38) (j := 1) C dX1_pair_38 rfl ?_
      refine z_iload_n (pc := 40) (j := 3) C dX1_pair_40 rfl rfl ?_
      refine z_icmp_ge (pc := 41) (tgt := 81) C dX1_pair_41 (by decide) (by omega) (by omega) (fun c41 => ?_) (fun c41 => ?_)
      · have heb9 := esq_b t i σ.sh.cs σ.wd k.toNat
        rw [← hf1] at heb9
        have heb8 := esq_b t i σ.sh.cs σ.wd (k + 1).toNat
        rw [← hf2] at heb8
        have hff := esq_m t i σ.sh.cs σ.wd k.toNat
        rw [← hf1, show k.toNat + 1 = (k + 1).toNat by omega, ← hf2] at hff
        have hp1 := pm_st (a := t.length + 1 - e.toNat) (b := t.length - e.toNat) (L := t.length) (C := σ.sh.cs.length) (by omega)
        refine z_iload_n (pc := 81) (j := 4) C dX1_pair_81 rfl rfl ?_
        refine z_if_ne (pc := 82) (tgt := 97) C dX1_pair_82 (by decide) (by omega) (fun c82 => ?_) (fun c82 => by exfalso; omega)
        refine z_null (pc := 97) C dX1_pair_97 ?_
        exact z_areturn (pc := 98) C (Or.inl ⟨_, rfl⟩) (Or.inl rfl) (by rw [hXp]; exact ⟨_, rfl, rfl, hkp⟩) dX1_pair_98
      · have heb0 := esq_b t i σ.sh.cs σ.wd (k + 1).toNat
        rw [← hf2] at heb0
        have heb := endo_b (T := t) (ln := i) (cs := σ.sh.cs) (wd := σ.wd) (fr := e) (by omega)
        have hp1 := pm_st (a := t.length + 1 - e.toNat) (b := t.length - e.toNat) (L := t.length) (C := σ.sh.cs.length) (by omega)
        have hp2 := pm_st (a := t.length - e.toNat) (b := t.length - e.toNat - 1) (L := t.length) (C := σ.sh.cs.length) (by omega)
        have hp3 := pm_m (a := t.length - e.toNat) (b := t.length + 1 - (endo t i σ.sh.cs σ.wd e).toNat) (L := t.length) (C := σ.sh.cs.length) (by omega)
        refine z_iload (pc := 44) (j := 1) C dX1_pair_44 rfl ?_
        refine z_istore (pc := 46) (L' := [(4, .int (iI e)), (6, .int (iI k)), (5, .int (iI e)), (3, .int (iI ((t.length : Nat) : Int))), (2, .int (iI p)), (1, .int (iI i)), (0, .ref c)]) C dX1_pair_46 (by rw [hnL]; decide) rfl ?_
        refine z_aload_n (pc := 48) (j := 6) C dX1_pair_48 rfl rfl ?_
        refine z_iload_n (pc := 49) (j := 5) C dX1_pair_49 rfl rfl ?_
        refine z_iload (pc := 50) (j := 0) C dX1_pair_50 rfl ?_
        refine z_callV (pc := 52) (n := 2) (kc' := (pmC (t.length + 1 - e.toNat) t.length σ.sh.cs.length - eC t.length σ.sh.cs.length)) (ks' := (pmS (t.length + 1 - e.toNat) t.length σ.sh.cs.length - eS t.length σ.sh.cs.length)) C (op_endOf C.t (hW.keep0 hkp) (i := i) (by omega) ht (fr := e) (by omega)) (lw_V q1949 q1951 qs21 q63 q1952) (by decide +kernel) ⟨by decide, by decide⟩ (hkp.n hc0 List.not_mem_nil) rfl rfl rfl (Nat.le_of_ble_eq_true rfl) dX1_pair_52 (by omega) (by omega) (zrk fun w h4 hp => ?_) zrx
        obtain ⟨rfl, k5⟩ := hp
        have kh4 : zkeep h h4 [] := zkeep.loc hkp k5 zall_nil
        have hebh4 := endo_b (T := t) (ln := i) (cs := σ.sh.cs) (wd := σ.wd) (fr := e) (by omega)
        show Z X h4 (pmC (t.length + 1 - e.toNat) t.length σ.sh.cs.length - eC t.length σ.sh.cs.length) (pmS (t.length + 1 - e.toNat) t.length σ.sh.cs.length - eS t.length σ.sh.cs.length) [(4, .int (iI e)), (6, .int (iI k)), (5, .int (iI e)), (3, .int (iI ((t.length : Nat) : Int))), (2, .int (iI p)), (1, .int (iI i)), (0, .ref c)] 55 [.int (iI (endo t i σ.sh.cs σ.wd e))]
        refine z_istore (pc := 55) (L' := [(5, .int (iI (endo t i σ.sh.cs σ.wd e))), (4, .int (iI e)), (6, .int (iI k)), (3, .int (iI ((t.length : Nat) : Int))), (2, .int (iI p)), (1, .int (iI i)), (0, .ref c)]) C dX1_pair_55 (by rw [hnL]; decide) rfl ?_
        refine z_iload (pc := 57) (j := 2) C dX1_pair_57 rfl ?_
        refine z_iconst (pc := 59) C dX1_pair_59 ?_
        refine z_iadd (pc := 60) C dX1_pair_60 ?_
        refine z_iload_n (pc := 61) (j := 4) C dX1_pair_61 rfl rfl ?_
        refine z_icmp_ne (pc := 62) (tgt := 75) C dX1_pair_62 (by decide) (by omega) (by omega) (fun c62 => ?_) (fun c62 => by exfalso; exact absurd (Or.inr (by rw [show p.toNat = (k + 1).toNat by omega, ← hf2]; omega)) hex)
        refine z_iinc (pc := 75) (k := 2) (L' := [(6, .int (iI (k + 1))), (5, .int (iI (endo t i σ.sh.cs σ.wd e))), (4, .int (iI e)), (3, .int (iI ((t.length : Nat) : Int))), (2, .int (iI p)), (1, .int (iI i)), (0, .ref c)]) C dX1_pair_75 rfl (by rw [hnL]; decide) rfl ?_
        refine z_goto (pc := 78) (tgt := 32) C dX1_pair_78 (by decide) ?_
        refine Z.weak (L' := [(6, .int (iI (k + 1))), (5, .int (iI (endo t i σ.sh.cs σ.wd e))), (4, .int (iI e)), (3, .int (iI ((t.length : Nat) : Int))), (2, .int (iI p)), (1, .int (iI i)), (0, .ref c)]) (kc' := pmC (t.length + 1 - (endo t i σ.sh.cs σ.wd e).toNat) t.length σ.sh.cs.length) (ks' := pmS (t.length + 1 - (endo t i σ.sh.cs σ.wd e).toNat) t.length σ.sh.cs.length) [0, 1, 2, 3, 4, 5, 6] rfl (by omega) (by omega) ?_
        exact ih32 _ (by omega) (k + 1) e (endo t i σ.sh.cs σ.wd e) h4 (by omega) kh4 hf2 (by rw [show (k + 1 + 1).toNat = (k + 1).toNat + 1 by omega, esq, ← hf2]) (by omega) (by omega) rfl
  refine Z.weak (L' := [(6, .int (iI 0)), (5, .int (iI (endo t i σ.sh.cs σ.wd 0))), (4, .int (iI 0)), (3, .int (iI ((t.length : Nat) : Int))), (2, .int (iI p)), (1, .int (iI i)), (0, .ref c)]) (kc' := pmC (t.length + 1 - (endo t i σ.sh.cs σ.wd 0).toNat) t.length σ.sh.cs.length) (ks' := pmS (t.length + 1 - (endo t i σ.sh.cs σ.wd 0).toNat) t.length σ.sh.cs.length) [0, 1, 2, 3, 6, 5, 4] rfl (by omega) (by omega) ?_
  exact loop32 _ 0 0 (endo t i σ.sh.cs σ.wd 0) h2 (by omega) kh2 rfl rfl (Or.inl rfl) (by omega) rfl
set_option maxHeartbeats 4000000 in
theorem op_row {l : Launch} (hl : l.stackTraces = false) {Γ : zCx} {h : zH} {c : Nat} {A : zWA} {σ : zSt} (hW : csW Γ h c A σ) {i : Int} {t : List Int} (hi : 0 ≤ i) (ht : σ.sh.ls[i.toNat]? = some t) {p : Int} (hp : 0 ≤ p ∧ p ≤ 2147483647) (hex : p = 0 ∨ esq t i σ.sh.cs σ.wd p.toNat < (t.length : Nat)) {r : Int} (hr : r = 0 ∨ r = 1)  : zMet l yX1_row (ws_ yX1_row cX1_row 5 (some (.object "java/lang/StringBuilder"))) ({ frames := 13, cells := pmC (t.length + 2) t.length σ.sh.cs.length, slots := pmS (t.length + 2) t.length σ.sh.cs.length, locals := 293 }) Γ h [.ref c, .int (iI i), .int (iI p), .int (iI r)] (zrt (fun w h' => ∃ b v, w = some (.ref b) ∧ bAt h' b v (rwx r (lay t i σ.sh.cs (esq t i σ.sh.cs σ.wd p.toNat) (esq t i σ.sh.cs σ.wd (p.toNat + 1)))) (kap (rwx r (lay t i σ.sh.cs (esq t i σ.sh.cs σ.wd p.toNat) (esq t i σ.sh.cs σ.wd (p.toNat + 1)))).length) ∧ zkeep h h' [])) (pmC (t.length + 2) t.length σ.sh.cs.length) (pmS (t.length + 2) t.length σ.sh.cs.length) := by
  refine zMet.of (cc := cX1_row) hl (plainFor_of_name (by decide +kernel)) (Nat.le_of_ble_eq_true rfl) ?_
  intro X hXl hXΓ hXp C hnm hnL
  have C : zC X cX1_row RX1 (some (.object "java/lang/StringBuilder")) 13 293 [] := C
  have hnL : X.2.1.2.2.2.2 = 5 := hnL
  subst hXl hXΓ
  show Z X h (pmC (t.length + 2) t.length σ.sh.cs.length) (pmS (t.length + 2) t.length σ.sh.cs.length) [(0, .ref c), (1, .int (iI i)), (2, .int (iI p)), (3, .int (iI r))] 0 []
  have hit := (List.getElem?_eq_some_iff.mp ht).1
  obtain ⟨⟨tf, hc0, htx, hch⟩, hdq, ⟨lq, kq, lys, ys, hsx, hfl, hls, hl0, hyc, hkx⟩, hhi, hnd, hR⟩ := id hW
  obtain ⟨rsi, rff, rwd, rtl, rtx, rsh, rhi, rhl⟩ := id hR
  obtain ⟨rcl, rcr, rll, rlt, rkt, rkm, rks⟩ := rsh
  have hll := hls.len
  have hyl := hyc.len
  obtain ⟨lm, le0, ln0, lf, hlq, hle, hln, hlN, hlx⟩ := id hfl
  have hxw := hl0
  obtain ⟨mw, fw, law, lew, lzw, ltw, lnw, lcw, lxw, lqw⟩ := hxw
  have hcl := hyc.cl lxw
  refine z_iload_n (pc := 0) (j := 1) C dX1_row_0 rfl rfl ?_
  refine z_aload_n (pc := 1) (j := 0) C dX1_row_1 rfl rfl ?_
  refine z_getfield (pc := 2) (v := .ref A.cu.s) C in_X1 rfl 5 (by decide) q282 (fun _ z => z) hc0 rfl dX1_row_2 ?_
  refine z_getfieldN (pc := 5) (v := .ref lq) C in_X2 rfl 0 (by decide) q167 (fun _ z => z) hsx rfl dX1_row_5 ?_
  refine z_callV (pc := 8) (n := 0) (kc' := (pmC (t.length + 2) t.length σ.sh.cs.length)) (ks' := (pmS (t.length + 2) t.length σ.sh.cs.length)) C (ct_L_size C.t hlq) (lw_V q995 q367 q368 q68 q369) (by decide +kernel) ⟨by decide, by decide⟩ hlq rfl rfl rfl (Nat.le_of_ble_eq_true rfl) dX1_row_8 (by omega) (by omega) (zpk (st' := [.int (iI ((lys.length : Nat) : Int)), .int (iI i)]) rfl ?_) zrx
  refine z_callS (pc := 11) (n := 2) (kc' := (pmC (t.length + 2) t.length σ.sh.cs.length)) (ks' := (pmS (t.length + 2) t.length σ.sh.cs.length)) C (ct_chkI C.t (i := i) (n := ((lys.length : Nat) : Int)) (by omega) (by omega)) (lw_S q1695 q1696 q63 q1697) (by decide +kernel) ⟨by decide, by decide⟩ rfl rfl (Nat.le_of_ble_eq_true rfl) dX1_row_11 (by omega) (by omega) (zpk (st' := []) rfl ?_) zrx
  refine z_iload_n (pc := 14) (j := 2) C dX1_row_14 rfl rfl ?_
  refine z_if_ge (pc := 15) (tgt := 26) C dX1_row_15 (by decide) (by omega) (fun c15 => ?_) (fun c15 => by exfalso; omega)
  refine z_aload_n (pc := 26) (j := 0) C dX1_row_26 rfl rfl ?_
  refine z_iload_n (pc := 27) (j := 1) C dX1_row_27 rfl rfl ?_
  refine z_iload_n (pc := 28) (j := 2) C dX1_row_28 rfl rfl ?_
  refine z_callV (pc := 29) (n := 2) (kc' := (pmC (t.length + 2) t.length σ.sh.cs.length - pmC (t.length + 2) t.length σ.sh.cs.length)) (ks' := (pmS (t.length + 2) t.length σ.sh.cs.length - pmS (t.length + 2) t.length σ.sh.cs.length)) C (op_pair C.t hW (i := i) (by omega) ht (p := p) (by omega) hex) (lw_V q2028 q2030 qs25 q63 q2031) (by decide +kernel) ⟨by decide, by decide⟩ hc0 rfl rfl rfl (Nat.le_of_ble_eq_true rfl) dX1_row_29 (by omega) (by omega) (zrk fun w h1 hp => ?_) zrx
  obtain ⟨rw_2, q_2, b_2, v_2, d_2, u_2, rfl, hrw_2, hb1_2, hb2_2, k3⟩ := hp
  have kh1 : zkeep h h1 [] := zkeep.loc zkeep.rf k3 zall_nil
  show Z X h1 (pmC (t.length + 2) t.length σ.sh.cs.length - pmC (t.length + 2) t.length σ.sh.cs.length) (pmS (t.length + 2) t.length σ.sh.cs.length - pmS (t.length + 2) t.length σ.sh.cs.length) [(0, .ref c), (1, .int (iI i)), (2, .int (iI p)), (3, .int (iI r))] 32 [.ref rw_2]
  refine z_astore (pc := 32) (L' := [(4, .ref rw_2), (0, .ref c), (1, .int (iI i)), (2, .int (iI p)), (3, .int (iI r))]) C dX1_row_32 (by rw [hnL]; decide) rfl ?_
  refine z_iload_n (pc := 34) (j := 4) C dX1_row_34 rfl rfl ?_
  refine z_aload (pc := 35) (j := 0) C dX1_row_35 rfl ?_
  refine z_ifnonnull (pc := 37) (tgt := 44) C dX1_row_37 (by decide) ?_
  refine z_iconst (pc := 44) C dX1_row_44 ?_
  refine z_callS (pc := 45) (n := 2) (kc' := (pmC (t.length + 2) t.length σ.sh.cs.length - pmC (t.length + 2) t.length σ.sh.cs.length)) (ks' := (pmS (t.length + 2) t.length σ.sh.cs.length - pmS (t.length + 2) t.length σ.sh.cs.length)) C (ct_chkI C.t (i := r) (n := 2) (by omega) (by omega)) (lw_S q1695 q1696 q63 q1697) (by decide +kernel) ⟨by decide, by decide⟩ rfl rfl (Nat.le_of_ble_eq_true rfl) dX1_row_45 (by omega) (by omega) (zpk (st' := []) rfl ?_) zrx
  refine z_iload_n (pc := 48) (j := 4) C dX1_row_48 rfl rfl ?_
  refine z_if_ne (pc := 49) (tgt := 60) C dX1_row_49 (by decide) (by omega) (fun c49 => ?_) (fun c49 => ?_)
  · refine z_aload (pc := 60) (j := 0) C dX1_row_60 rfl ?_
    refine z_getfieldN (pc := 62) (v := .ref d_2) C in_X10 rfl 3 (by decide) q1969 (fun _ z => z) hrw_2 rfl dX1_row_62 ?_
    exact z_areturn (pc := 65) C (Or.inl ⟨_, rfl⟩) (Or.inr ⟨_, rfl⟩) (by rw [hXp]; exact ⟨_, rfl, d_2, u_2, rfl, (by rw [show (rwx r (lay t i σ.sh.cs (esq t i σ.sh.cs σ.wd p.toNat) (esq t i σ.sh.cs σ.wd (p.toNat + 1)))) = (lay t i σ.sh.cs (esq t i σ.sh.cs σ.wd p.toNat) (esq t i σ.sh.cs σ.wd (p.toNat + 1))).2 by unfold rwx; rw [if_neg (by omega)]]; exact hb2_2), kh1⟩) dX1_row_65
  · refine z_aload (pc := 52) (j := 0) C dX1_row_52 rfl ?_
    refine z_getfieldN (pc := 54) (v := .ref b_2) C in_X10 rfl 2 (by decide) q1967 (fun _ z => z) hrw_2 rfl dX1_row_54 ?_
    refine z_goto (pc := 57) (tgt := 65) C dX1_row_57 (by decide) ?_
    exact z_areturn (pc := 65) C (Or.inl ⟨_, rfl⟩) (Or.inr ⟨_, rfl⟩) (by rw [hXp]; exact ⟨_, rfl, b_2, v_2, rfl, (by rw [show (rwx r (lay t i σ.sh.cs (esq t i σ.sh.cs σ.wd p.toNat) (esq t i σ.sh.cs σ.wd (p.toNat + 1)))) = (lay t i σ.sh.cs (esq t i σ.sh.cs σ.wd p.toNat) (esq t i σ.sh.cs σ.wd (p.toNat + 1))).1 by unfold rwx; rw [if_pos (by omega)]]; exact hb1_2), kh1⟩) dX1_row_65
set_option maxHeartbeats 4000000 in
theorem op_row_b1 {l : Launch} (hl : l.stackTraces = false) {Γ : zCx} {h : zH} {c : Nat} {A : zWA} {σ : zSt} (hW : csW Γ h c A σ) {i : Int} (hi : -2147483648 ≤ i ∧ i ≤ 2147483647) (hb : ¬ (0 ≤ i ∧ i < (σ.sh.ls.length : Nat))) {p r : Int}  : zMet l yX1_row (ws_ yX1_row cX1_row 5 (some (.object "java/lang/StringBuilder"))) ({ frames := 7, cells := 1, slots := 6, locals := 102 }) Γ h [.ref c, .int (iI i), .int (iI p), .int (iI r)] (zthp h "java/lang/IndexOutOfBoundsException") 1 6 := by
  refine zMet.of (cc := cX1_row) hl (plainFor_of_name (by decide +kernel)) (Nat.le_of_ble_eq_true rfl) ?_
  intro X hXl hXΓ hXp C hnm hnL
  have C : zC X cX1_row RX1 (some (.object "java/lang/StringBuilder")) 7 102 [] := C
  have hnL : X.2.1.2.2.2.2 = 5 := hnL
  subst hXl hXΓ
  show Z X h 1 6 [(0, .ref c), (1, .int (iI i)), (2, .int (iI p)), (3, .int (iI r))] 0 []
  obtain ⟨⟨tf, hc0, htx, hch⟩, hdq, ⟨lq, kq, lys, ys, hsx, hfl, hls, hl0, hyc, hkx⟩, hhi, hnd, hR⟩ := id hW
  obtain ⟨rsi, rff, rwd, rtl, rtx, rsh, rhi, rhl⟩ := id hR
  obtain ⟨rcl, rcr, rll, rlt, rkt, rkm, rks⟩ := rsh
  have hll := hls.len
  have hyl := hyc.len
  obtain ⟨lm, le0, ln0, lf, hlq, hle, hln, hlN, hlx⟩ := id hfl
  have hxw := hl0
  obtain ⟨mw, fw, law, lew, lzw, ltw, lnw, lcw, lxw, lqw⟩ := hxw
  have hcl := hyc.cl lxw
  refine z_iload_n (pc := 0) (j := 1) C dX1_row_0 rfl rfl ?_
  refine z_aload_n (pc := 1) (j := 0) C dX1_row_1 rfl rfl ?_
  refine z_getfield (pc := 2) (v := .ref A.cu.s) C in_X1 rfl 5 (by decide) q282 (fun _ z => z) hc0 rfl dX1_row_2 ?_
  refine z_getfieldN (pc := 5) (v := .ref lq) C in_X2 rfl 0 (by decide) q167 (fun _ z => z) hsx rfl dX1_row_5 ?_
  refine z_callV (pc := 8) (n := 0) (kc' := 1) (ks' := 6) C (ct_L_size C.t hlq) (lw_V q995 q367 q368 q68 q369) (by decide +kernel) ⟨by decide, by decide⟩ hlq rfl rfl rfl (Nat.le_of_ble_eq_true rfl) dX1_row_8 (by omega) (by omega) (zpk (st' := [.int (iI ((lys.length : Nat) : Int)), .int (iI i)]) rfl ?_) zrx
  refine z_callS (pc := 11) (n := 2) (kc' := 0) (ks' := 0) C (ct_chkIb C.t (i := i) (n := ((lys.length : Nat) : Int)) (by omega) (by omega)) (lw_S q1695 q1696 q63 q1697) (by decide +kernel) ⟨by decide, by decide⟩ rfl rfl (Nat.le_of_ble_eq_true rfl) dX1_row_11 (by omega) (by omega) zthk (zthx fun q2 h1 hp => ?_)
  rw [hp]
  exact zx_out C (fun x hx => nomatch hx) (by rw [hXp]; exact ⟨_, rfl, rfl⟩)
set_option maxHeartbeats 4000000 in
theorem op_row_b2 {l : Launch} (hl : l.stackTraces = false) {Γ : zCx} {h : zH} {c : Nat} {A : zWA} {σ : zSt} (hW : csW Γ h c A σ) {i : Int} {t : List Int} (hi : 0 ≤ i) (ht : σ.sh.ls[i.toNat]? = some t) {p r : Int} (hp : -2147483648 ≤ p ∧ p < 0)  : zMet l yX1_row (ws_ yX1_row cX1_row 5 (some (.object "java/lang/StringBuilder"))) ({ frames := 6, cells := 1, slots := 6, locals := 81 }) Γ h [.ref c, .int (iI i), .int (iI p), .int (iI r)] (zthp h "java/lang/IndexOutOfBoundsException") 1 6 := by
  refine zMet.of (cc := cX1_row) hl (plainFor_of_name (by decide +kernel)) (Nat.le_of_ble_eq_true rfl) ?_
  intro X hXl hXΓ hXp C hnm hnL
  have C : zC X cX1_row RX1 (some (.object "java/lang/StringBuilder")) 6 81 [] := C
  have hnL : X.2.1.2.2.2.2 = 5 := hnL
  subst hXl hXΓ
  show Z X h 1 6 [(0, .ref c), (1, .int (iI i)), (2, .int (iI p)), (3, .int (iI r))] 0 []
  have hit := (List.getElem?_eq_some_iff.mp ht).1
  obtain ⟨⟨tf, hc0, htx, hch⟩, hdq, ⟨lq, kq, lys, ys, hsx, hfl, hls, hl0, hyc, hkx⟩, hhi, hnd, hR⟩ := id hW
  obtain ⟨rsi, rff, rwd, rtl, rtx, rsh, rhi, rhl⟩ := id hR
  obtain ⟨rcl, rcr, rll, rlt, rkt, rkm, rks⟩ := rsh
  have hll := hls.len
  have hyl := hyc.len
  obtain ⟨lm, le0, ln0, lf, hlq, hle, hln, hlN, hlx⟩ := id hfl
  have hxw := hl0
  obtain ⟨mw, fw, law, lew, lzw, ltw, lnw, lcw, lxw, lqw⟩ := hxw
  have hcl := hyc.cl lxw
  refine z_iload_n (pc := 0) (j := 1) C dX1_row_0 rfl rfl ?_
  refine z_aload_n (pc := 1) (j := 0) C dX1_row_1 rfl rfl ?_
  refine z_getfield (pc := 2) (v := .ref A.cu.s) C in_X1 rfl 5 (by decide) q282 (fun _ z => z) hc0 rfl dX1_row_2 ?_
  refine z_getfieldN (pc := 5) (v := .ref lq) C in_X2 rfl 0 (by decide) q167 (fun _ z => z) hsx rfl dX1_row_5 ?_
  refine z_callV (pc := 8) (n := 0) (kc' := 1) (ks' := 6) C (ct_L_size C.t hlq) (lw_V q995 q367 q368 q68 q369) (by decide +kernel) ⟨by decide, by decide⟩ hlq rfl rfl rfl (Nat.le_of_ble_eq_true rfl) dX1_row_8 (by omega) (by omega) (zpk (st' := [.int (iI ((lys.length : Nat) : Int)), .int (iI i)]) rfl ?_) zrx
  refine z_callS (pc := 11) (n := 2) (kc' := 1) (ks' := 6) C (ct_chkI C.t (i := i) (n := ((lys.length : Nat) : Int)) (by omega) (by omega)) (lw_S q1695 q1696 q63 q1697) (by decide +kernel) ⟨by decide, by decide⟩ rfl rfl (Nat.le_of_ble_eq_true rfl) dX1_row_11 (by omega) (by omega) (zpk (st' := []) rfl ?_) zrx
  refine z_iload_n (pc := 14) (j := 2) C dX1_row_14 rfl rfl ?_
  refine z_if_ge (pc := 15) (tgt := 26) C dX1_row_15 (by decide) (by omega) (fun c15 => by exfalso; omega) (fun c15 => ?_)
  exact z_throw0 (pc := 18) (names := ["java/lang/RuntimeException", "java/lang/Exception"]) C q1698 q92 (by decide +kernel) (by decide +kernel) th_I (by decide +kernel) dX1_row_18 dX1_row_21 dX1_row_22 dX1_row_25 (fun x hx => nomatch hx) (by decide) (Nat.le_of_ble_eq_true rfl) (by omega) (by omega) (fun q => by rw [hXp]; exact ⟨_, rfl, rfl⟩)
set_option maxHeartbeats 4000000 in
theorem op_row_b3 {l : Launch} (hl : l.stackTraces = false) {Γ : zCx} {h : zH} {c : Nat} {A : zWA} {σ : zSt} (hW : csW Γ h c A σ) {i : Int} {t : List Int} (hi : 0 ≤ i) (ht : σ.sh.ls[i.toNat]? = some t) {p : Int} (hp : 0 ≤ p ∧ p ≤ 2147483647) (hex : ¬ (p = 0 ∨ esq t i σ.sh.cs σ.wd p.toNat < (t.length : Nat))) {r : Int} (hr : -2147483648 ≤ r ∧ r ≤ 2147483647)  : zMet l yX1_row (ws_ yX1_row cX1_row 5 (some (.object "java/lang/StringBuilder"))) ({ frames := 13, cells := (pmC (t.length + 2) t.length σ.sh.cs.length + 1), slots := (pmS (t.length + 2) t.length σ.sh.cs.length + 6), locals := 293 }) Γ h [.ref c, .int (iI i), .int (iI p), .int (iI r)] (zth "java/lang/IndexOutOfBoundsException" fun _ h' => zkeep h h' []) (pmC (t.length + 2) t.length σ.sh.cs.length + 1) (pmS (t.length + 2) t.length σ.sh.cs.length + 6) := by
  refine zMet.of (cc := cX1_row) hl (plainFor_of_name (by decide +kernel)) (Nat.le_of_ble_eq_true rfl) ?_
  intro X hXl hXΓ hXp C hnm hnL
  have C : zC X cX1_row RX1 (some (.object "java/lang/StringBuilder")) 13 293 [] := C
  have hnL : X.2.1.2.2.2.2 = 5 := hnL
  subst hXl hXΓ
  show Z X h (pmC (t.length + 2) t.length σ.sh.cs.length + 1) (pmS (t.length + 2) t.length σ.sh.cs.length + 6) [(0, .ref c), (1, .int (iI i)), (2, .int (iI p)), (3, .int (iI r))] 0 []
  have hit := (List.getElem?_eq_some_iff.mp ht).1
  obtain ⟨⟨tf, hc0, htx, hch⟩, hdq, ⟨lq, kq, lys, ys, hsx, hfl, hls, hl0, hyc, hkx⟩, hhi, hnd, hR⟩ := id hW
  obtain ⟨rsi, rff, rwd, rtl, rtx, rsh, rhi, rhl⟩ := id hR
  obtain ⟨rcl, rcr, rll, rlt, rkt, rkm, rks⟩ := rsh
  have hll := hls.len
  have hyl := hyc.len
  obtain ⟨lm, le0, ln0, lf, hlq, hle, hln, hlN, hlx⟩ := id hfl
  have hxw := hl0
  obtain ⟨mw, fw, law, lew, lzw, ltw, lnw, lcw, lxw, lqw⟩ := hxw
  have hcl := hyc.cl lxw
  refine z_iload_n (pc := 0) (j := 1) C dX1_row_0 rfl rfl ?_
  refine z_aload_n (pc := 1) (j := 0) C dX1_row_1 rfl rfl ?_
  refine z_getfield (pc := 2) (v := .ref A.cu.s) C in_X1 rfl 5 (by decide) q282 (fun _ z => z) hc0 rfl dX1_row_2 ?_
  refine z_getfieldN (pc := 5) (v := .ref lq) C in_X2 rfl 0 (by decide) q167 (fun _ z => z) hsx rfl dX1_row_5 ?_
  refine z_callV (pc := 8) (n := 0) (kc' := (pmC (t.length + 2) t.length σ.sh.cs.length + 1)) (ks' := (pmS (t.length + 2) t.length σ.sh.cs.length + 6)) C (ct_L_size C.t hlq) (lw_V q995 q367 q368 q68 q369) (by decide +kernel) ⟨by decide, by decide⟩ hlq rfl rfl rfl (Nat.le_of_ble_eq_true rfl) dX1_row_8 (by omega) (by omega) (zpk (st' := [.int (iI ((lys.length : Nat) : Int)), .int (iI i)]) rfl ?_) zrx
  refine z_callS (pc := 11) (n := 2) (kc' := (pmC (t.length + 2) t.length σ.sh.cs.length + 1)) (ks' := (pmS (t.length + 2) t.length σ.sh.cs.length + 6)) C (ct_chkI C.t (i := i) (n := ((lys.length : Nat) : Int)) (by omega) (by omega)) (lw_S q1695 q1696 q63 q1697) (by decide +kernel) ⟨by decide, by decide⟩ rfl rfl (Nat.le_of_ble_eq_true rfl) dX1_row_11 (by omega) (by omega) (zpk (st' := []) rfl ?_) zrx
  refine z_iload_n (pc := 14) (j := 2) C dX1_row_14 rfl rfl ?_
  refine z_if_ge (pc := 15) (tgt := 26) C dX1_row_15 (by decide) (by omega) (fun c15 => ?_) (fun c15 => by exfalso; omega)
  refine z_aload_n (pc := 26) (j := 0) C dX1_row_26 rfl rfl ?_
  refine z_iload_n (pc := 27) (j := 1) C dX1_row_27 rfl rfl ?_
  refine z_iload_n (pc := 28) (j := 2) C dX1_row_28 rfl rfl ?_
  refine z_callV (pc := 29) (n := 2) (kc' := ((pmC (t.length + 2) t.length σ.sh.cs.length + 1) - pmC (t.length + 2) t.length σ.sh.cs.length)) (ks' := ((pmS (t.length + 2) t.length σ.sh.cs.length + 6) - pmS (t.length + 2) t.length σ.sh.cs.length)) C (op_pair_n C.t hW (i := i) (by omega) ht (p := p) (by omega) hex) (lw_V q2028 q2030 qs25 q63 q2031) (by decide +kernel) ⟨by decide, by decide⟩ hc0 rfl rfl rfl (Nat.le_of_ble_eq_true rfl) dX1_row_29 (by omega) (by omega) (zrk fun w h1 hp => ?_) zrx
  obtain ⟨rfl, k3⟩ := hp
  have kh1 : zkeep h h1 [] := zkeep.loc zkeep.rf k3 zall_nil
  show Z X h1 ((pmC (t.length + 2) t.length σ.sh.cs.length + 1) - pmC (t.length + 2) t.length σ.sh.cs.length) ((pmS (t.length + 2) t.length σ.sh.cs.length + 6) - pmS (t.length + 2) t.length σ.sh.cs.length) [(0, .ref c), (1, .int (iI i)), (2, .int (iI p)), (3, .int (iI r))] 32 [.null]
  refine z_astoreN (pc := 32) (L' := [(4, .null), (0, .ref c), (1, .int (iI i)), (2, .int (iI p)), (3, .int (iI r))]) C dX1_row_32 (by rw [hnL]; decide) rfl ?_
  refine z_iload_n (pc := 34) (j := 4) C dX1_row_34 rfl rfl ?_
  refine z_aloadN (pc := 35) (j := 0) C dX1_row_35 rfl ?_
  refine z_ifnonnullN (pc := 37) C dX1_row_37 ?_
  refine z_iconst (pc := 40) C dX1_row_40 ?_
  refine z_goto (pc := 41) (tgt := 45) C dX1_row_41 (by decide) ?_
  refine z_callS (pc := 45) (n := 2) (kc' := (((pmC (t.length + 2) t.length σ.sh.cs.length + 1) - pmC (t.length + 2) t.length σ.sh.cs.length) - 1)) (ks' := (((pmS (t.length + 2) t.length σ.sh.cs.length + 6) - pmS (t.length + 2) t.length σ.sh.cs.length) - 6)) C (ct_chkIb C.t (i := r) (n := 0) (by omega) (by omega)) (lw_S q1695 q1696 q63 q1697) (by decide +kernel) ⟨by decide, by decide⟩ rfl rfl (Nat.le_of_ble_eq_true rfl) dX1_row_45 (by omega) (by omega) zthk (zthx fun q5 h4 hp => ?_)
  rw [hp]
  exact zx_out C (fun x hx => nomatch hx) (by rw [hXp]; exact ⟨_, rfl, kh1⟩)
set_option maxHeartbeats 4000000 in
theorem op_row_b4 {l : Launch} (hl : l.stackTraces = false) {Γ : zCx} {h : zH} {c : Nat} {A : zWA} {σ : zSt} (hW : csW Γ h c A σ) {i : Int} {t : List Int} (hi : 0 ≤ i) (ht : σ.sh.ls[i.toNat]? = some t) {p : Int} (hp : 0 ≤ p ∧ p ≤ 2147483647) (hex : p = 0 ∨ esq t i σ.sh.cs σ.wd p.toNat < (t.length : Nat)) {r : Int} (hr : -2147483648 ≤ r ∧ r ≤ 2147483647) (hb : ¬ (r = 0 ∨ r = 1))  : zMet l yX1_row (ws_ yX1_row cX1_row 5 (some (.object "java/lang/StringBuilder"))) ({ frames := 13, cells := (pmC (t.length + 2) t.length σ.sh.cs.length + 1), slots := (pmS (t.length + 2) t.length σ.sh.cs.length + 6), locals := 293 }) Γ h [.ref c, .int (iI i), .int (iI p), .int (iI r)] (zth "java/lang/IndexOutOfBoundsException" fun _ h' => zkeep h h' []) (pmC (t.length + 2) t.length σ.sh.cs.length + 1) (pmS (t.length + 2) t.length σ.sh.cs.length + 6) := by
  refine zMet.of (cc := cX1_row) hl (plainFor_of_name (by decide +kernel)) (Nat.le_of_ble_eq_true rfl) ?_
  intro X hXl hXΓ hXp C hnm hnL
  have C : zC X cX1_row RX1 (some (.object "java/lang/StringBuilder")) 13 293 [] := C
  have hnL : X.2.1.2.2.2.2 = 5 := hnL
  subst hXl hXΓ
  show Z X h (pmC (t.length + 2) t.length σ.sh.cs.length + 1) (pmS (t.length + 2) t.length σ.sh.cs.length + 6) [(0, .ref c), (1, .int (iI i)), (2, .int (iI p)), (3, .int (iI r))] 0 []
  have hit := (List.getElem?_eq_some_iff.mp ht).1
  obtain ⟨⟨tf, hc0, htx, hch⟩, hdq, ⟨lq, kq, lys, ys, hsx, hfl, hls, hl0, hyc, hkx⟩, hhi, hnd, hR⟩ := id hW
  obtain ⟨rsi, rff, rwd, rtl, rtx, rsh, rhi, rhl⟩ := id hR
  obtain ⟨rcl, rcr, rll, rlt, rkt, rkm, rks⟩ := rsh
  have hll := hls.len
  have hyl := hyc.len
  obtain ⟨lm, le0, ln0, lf, hlq, hle, hln, hlN, hlx⟩ := id hfl
  have hxw := hl0
  obtain ⟨mw, fw, law, lew, lzw, ltw, lnw, lcw, lxw, lqw⟩ := hxw
  have hcl := hyc.cl lxw
  refine z_iload_n (pc := 0) (j := 1) C dX1_row_0 rfl rfl ?_
  refine z_aload_n (pc := 1) (j := 0) C dX1_row_1 rfl rfl ?_
  refine z_getfield (pc := 2) (v := .ref A.cu.s) C in_X1 rfl 5 (by decide) q282 (fun _ z => z) hc0 rfl dX1_row_2 ?_
  refine z_getfieldN (pc := 5) (v := .ref lq) C in_X2 rfl 0 (by decide) q167 (fun _ z => z) hsx rfl dX1_row_5 ?_
  refine z_callV (pc := 8) (n := 0) (kc' := (pmC (t.length + 2) t.length σ.sh.cs.length + 1)) (ks' := (pmS (t.length + 2) t.length σ.sh.cs.length + 6)) C (ct_L_size C.t hlq) (lw_V q995 q367 q368 q68 q369) (by decide +kernel) ⟨by decide, by decide⟩ hlq rfl rfl rfl (Nat.le_of_ble_eq_true rfl) dX1_row_8 (by omega) (by omega) (zpk (st' := [.int (iI ((lys.length : Nat) : Int)), .int (iI i)]) rfl ?_) zrx
  refine z_callS (pc := 11) (n := 2) (kc' := (pmC (t.length + 2) t.length σ.sh.cs.length + 1)) (ks' := (pmS (t.length + 2) t.length σ.sh.cs.length + 6)) C (ct_chkI C.t (i := i) (n := ((lys.length : Nat) : Int)) (by omega) (by omega)) (lw_S q1695 q1696 q63 q1697) (by decide +kernel) ⟨by decide, by decide⟩ rfl rfl (Nat.le_of_ble_eq_true rfl) dX1_row_11 (by omega) (by omega) (zpk (st' := []) rfl ?_) zrx
  refine z_iload_n (pc := 14) (j := 2) C dX1_row_14 rfl rfl ?_
  refine z_if_ge (pc := 15) (tgt := 26) C dX1_row_15 (by decide) (by omega) (fun c15 => ?_) (fun c15 => by exfalso; omega)
  refine z_aload_n (pc := 26) (j := 0) C dX1_row_26 rfl rfl ?_
  refine z_iload_n (pc := 27) (j := 1) C dX1_row_27 rfl rfl ?_
  refine z_iload_n (pc := 28) (j := 2) C dX1_row_28 rfl rfl ?_
  refine z_callV (pc := 29) (n := 2) (kc' := ((pmC (t.length + 2) t.length σ.sh.cs.length + 1) - pmC (t.length + 2) t.length σ.sh.cs.length)) (ks' := ((pmS (t.length + 2) t.length σ.sh.cs.length + 6) - pmS (t.length + 2) t.length σ.sh.cs.length)) C (op_pair C.t hW (i := i) (by omega) ht (p := p) (by omega) hex) (lw_V q2028 q2030 qs25 q63 q2031) (by decide +kernel) ⟨by decide, by decide⟩ hc0 rfl rfl rfl (Nat.le_of_ble_eq_true rfl) dX1_row_29 (by omega) (by omega) (zrk fun w h1 hp => ?_) zrx
  obtain ⟨rw_2, q_2, b_2, v_2, d_2, u_2, rfl, hrw_2, hb1_2, hb2_2, k3⟩ := hp
  have kh1 : zkeep h h1 [] := zkeep.loc zkeep.rf k3 zall_nil
  show Z X h1 ((pmC (t.length + 2) t.length σ.sh.cs.length + 1) - pmC (t.length + 2) t.length σ.sh.cs.length) ((pmS (t.length + 2) t.length σ.sh.cs.length + 6) - pmS (t.length + 2) t.length σ.sh.cs.length) [(0, .ref c), (1, .int (iI i)), (2, .int (iI p)), (3, .int (iI r))] 32 [.ref rw_2]
  refine z_astore (pc := 32) (L' := [(4, .ref rw_2), (0, .ref c), (1, .int (iI i)), (2, .int (iI p)), (3, .int (iI r))]) C dX1_row_32 (by rw [hnL]; decide) rfl ?_
  refine z_iload_n (pc := 34) (j := 4) C dX1_row_34 rfl rfl ?_
  refine z_aload (pc := 35) (j := 0) C dX1_row_35 rfl ?_
  refine z_ifnonnull (pc := 37) (tgt := 44) C dX1_row_37 (by decide) ?_
  refine z_iconst (pc := 44) C dX1_row_44 ?_
  refine z_callS (pc := 45) (n := 2) (kc' := (((pmC (t.length + 2) t.length σ.sh.cs.length + 1) - pmC (t.length + 2) t.length σ.sh.cs.length) - 1)) (ks' := (((pmS (t.length + 2) t.length σ.sh.cs.length + 6) - pmS (t.length + 2) t.length σ.sh.cs.length) - 6)) C (ct_chkIb C.t (i := r) (n := 2) (by omega) (by omega)) (lw_S q1695 q1696 q63 q1697) (by decide +kernel) ⟨by decide, by decide⟩ rfl rfl (Nat.le_of_ble_eq_true rfl) dX1_row_45 (by omega) (by omega) zthk (zthx fun q5 h4 hp => ?_)
  rw [hp]
  exact zx_out C (fun x hx => nomatch hx) (by rw [hXp]; exact ⟨_, rfl, kh1⟩)
set_option maxHeartbeats 4000000 in
theorem op_rowLength {l : Launch} (hl : l.stackTraces = false) {Γ : zCx} {h : zH} {c : Nat} {A : zWA} {σ : zSt} (hW : csW Γ h c A σ) {i : Int} {t : List Int} (hi : 0 ≤ i) (ht : σ.sh.ls[i.toNat]? = some t) {p : Int} (hp : 0 ≤ p ∧ p ≤ 2147483647) (hex : p = 0 ∨ esq t i σ.sh.cs σ.wd p.toNat < (t.length : Nat)) {r : Int} (hr : r = 0 ∨ r = 1)  : zMet l yX1_rowLength (ws_ yX1_rowLength cX1_rowLength 4 (some .int)) ({ frames := 14, cells := pmC (t.length + 2) t.length σ.sh.cs.length, slots := pmS (t.length + 2) t.length σ.sh.cs.length, locals := 317 }) Γ h [.ref c, .int (iI i), .int (iI p), .int (iI r)] (zrt (fun w h' => w = some (.int (iI ((((rwx r (lay t i σ.sh.cs (esq t i σ.sh.cs σ.wd p.toNat) (esq t i σ.sh.cs σ.wd (p.toNat + 1)))).length : Nat) : Int)))) ∧ zkeep h h' [])) (pmC (t.length + 2) t.length σ.sh.cs.length) (pmS (t.length + 2) t.length σ.sh.cs.length) := by
  refine zMet.of (cc := cX1_rowLength) hl (plainFor_of_name (by decide +kernel)) (Nat.le_of_ble_eq_true rfl) ?_
  intro X hXl hXΓ hXp C hnm hnL
  have C : zC X cX1_rowLength RX1 (some .int) 14 317 [] := C
  have hnL : X.2.1.2.2.2.2 = 4 := hnL
  subst hXl hXΓ
  show Z X h (pmC (t.length + 2) t.length σ.sh.cs.length) (pmS (t.length + 2) t.length σ.sh.cs.length) [(0, .ref c), (1, .int (iI i)), (2, .int (iI p)), (3, .int (iI r))] 0 []
  obtain ⟨⟨tf, hc0, htx, hch⟩, hdq, ⟨lq, kq, lys, ys, hsx, hfl, hls, hl0, hyc, hkx⟩, hhi, hnd, hR⟩ := id hW
  obtain ⟨rsi, rff, rwd, rtl, rtx, rsh, rhi, rhl⟩ := id hR
  obtain ⟨rcl, rcr, rll, rlt, rkt, rkm, rks⟩ := rsh
  have hll := hls.len
  have hyl := hyc.len
  obtain ⟨lm, le0, ln0, lf, hlq, hle, hln, hlN, hlx⟩ := id hfl
  have hxw := hl0
  obtain ⟨mw, fw, law, lew, lzw, ltw, lnw, lcw, lxw, lqw⟩ := hxw
  have hcl := hyc.cl lxw
  have hT := rlt _ (List.mem_of_getElem? ht)
  have hu := lay_u (T := t) (ln := i) rcr (fr := esq t i σ.sh.cs σ.wd p.toNat) (to := esq t i σ.sh.cs σ.wd (p.toNat + 1)) (by have h1 := esq_b t i σ.sh.cs σ.wd p.toNat; have h2 := esq_b t i σ.sh.cs σ.wd (p.toNat + 1); have h3 := esq_m t i σ.sh.cs σ.wd p.toNat; omega)
  have hrl : (rwx r (lay t i σ.sh.cs (esq t i σ.sh.cs σ.wd p.toNat) (esq t i σ.sh.cs σ.wd (p.toNat + 1)))).length ≤ 1000 := by unfold rwx; split <;> omega
  refine z_aload_n (pc := 0) (j := 0) C dX1_rowLength_0 rfl rfl ?_
  refine z_iload_n (pc := 1) (j := 1) C dX1_rowLength_1 rfl rfl ?_
  refine z_iload_n (pc := 2) (j := 2) C dX1_rowLength_2 rfl rfl ?_
  refine z_iload_n (pc := 3) (j := 3) C dX1_rowLength_3 rfl rfl ?_
  refine z_callV (pc := 4) (n := 3) (kc' := (pmC (t.length + 2) t.length σ.sh.cs.length - pmC (t.length + 2) t.length σ.sh.cs.length)) (ks' := (pmS (t.length + 2) t.length σ.sh.cs.length - pmS (t.length + 2) t.length σ.sh.cs.length)) C (op_row C.t hW (i := i) (by omega) ht (p := p) (by omega) hex (r := r) hr) (lw_V q2024 q2026 qs24 q63 q2027) (by decide +kernel) ⟨by decide, by decide⟩ hc0 rfl rfl rfl (Nat.le_of_ble_eq_true rfl) dX1_rowLength_4 (by omega) (by omega) (zrk fun w h1 hp => ?_) zrx
  obtain ⟨b_2, v_2, rfl, hb_2, k3⟩ := hp
  have kh1 : zkeep h h1 [] := zkeep.loc zkeep.rf k3 zall_nil
  have hx_4 := hb_2
  obtain ⟨z_4, f_4, hb_4, hv_4, hlen_4, hcap_4, hcon_4, hfit_4, hasc_4⟩ := hx_4
  show Z X h1 (pmC (t.length + 2) t.length σ.sh.cs.length - pmC (t.length + 2) t.length σ.sh.cs.length) (pmS (t.length + 2) t.length σ.sh.cs.length - pmS (t.length + 2) t.length σ.sh.cs.length) [(0, .ref c), (1, .int (iI i)), (2, .int (iI p)), (3, .int (iI r))] 7 [.ref b_2]
  refine z_callV (pc := 7) (n := 0) (kc' := (pmC (t.length + 2) t.length σ.sh.cs.length - pmC (t.length + 2) t.length σ.sh.cs.length)) (ks' := (pmS (t.length + 2) t.length σ.sh.cs.length - pmS (t.length + 2) t.length σ.sh.cs.length)) C (ct_B_length (cap := 0) (f := fun _ => .null) C.t hb_4) (lw_V q2036 q439 q440 q82 q441) (by decide +kernel) ⟨by decide, by decide⟩ hb_4 rfl rfl rfl (Nat.le_of_ble_eq_true rfl) dX1_rowLength_7 (by omega) (by omega) (zpk (st' := [.int (iI (((rwx r (lay t i σ.sh.cs (esq t i σ.sh.cs σ.wd p.toNat) (esq t i σ.sh.cs σ.wd (p.toNat + 1)))).length : Nat) : Int))]) rfl ?_) zrx
  exact z_ireturn (pc := 10) C (by rw [hXp]; exact ⟨_, rfl, rfl, kh1⟩) dX1_rowLength_10
set_option maxHeartbeats 4000000 in
theorem op_rowChar {l : Launch} (hl : l.stackTraces = false) {Γ : zCx} {h : zH} {c : Nat} {A : zWA} {σ : zSt} (hW : csW Γ h c A σ) {i : Int} {t : List Int} (hi : 0 ≤ i) (ht : σ.sh.ls[i.toNat]? = some t) {p : Int} (hp : 0 ≤ p ∧ p ≤ 2147483647) (hex : p = 0 ∨ esq t i σ.sh.cs σ.wd p.toNat < (t.length : Nat)) {r : Int} (hr : r = 0 ∨ r = 1) {k d : Int} (hk : 0 ≤ k) (hd : (rwx r (lay t i σ.sh.cs (esq t i σ.sh.cs σ.wd p.toNat) (esq t i σ.sh.cs σ.wd (p.toNat + 1))))[k.toNat]? = some d)  : zMet l yX1_rowChar (ws_ yX1_rowChar cX1_rowChar 6 (some .int)) ({ frames := 14, cells := pmC (t.length + 2) t.length σ.sh.cs.length, slots := pmS (t.length + 2) t.length σ.sh.cs.length, locals := 317 }) Γ h [.ref c, .int (iI i), .int (iI p), .int (iI r), .int (iI k)] (zrt (fun w h' => w = some (.int (iI (d))) ∧ zkeep h h' [])) (pmC (t.length + 2) t.length σ.sh.cs.length) (pmS (t.length + 2) t.length σ.sh.cs.length) := by
  refine zMet.of (cc := cX1_rowChar) hl (plainFor_of_name (by decide +kernel)) (Nat.le_of_ble_eq_true rfl) ?_
  intro X hXl hXΓ hXp C hnm hnL
  have C : zC X cX1_rowChar RX1 (some .int) 14 317 [] := C
  have hnL : X.2.1.2.2.2.2 = 6 := hnL
  subst hXl hXΓ
  show Z X h (pmC (t.length + 2) t.length σ.sh.cs.length) (pmS (t.length + 2) t.length σ.sh.cs.length) [(0, .ref c), (1, .int (iI i)), (2, .int (iI p)), (3, .int (iI r)), (4, .int (iI k))] 0 []
  obtain ⟨⟨tf, hc0, htx, hch⟩, hdq, ⟨lq, kq, lys, ys, hsx, hfl, hls, hl0, hyc, hkx⟩, hhi, hnd, hR⟩ := id hW
  obtain ⟨rsi, rff, rwd, rtl, rtx, rsh, rhi, rhl⟩ := id hR
  obtain ⟨rcl, rcr, rll, rlt, rkt, rkm, rks⟩ := rsh
  have hll := hls.len
  have hyl := hyc.len
  obtain ⟨lm, le0, ln0, lf, hlq, hle, hln, hlN, hlx⟩ := id hfl
  have hxw := hl0
  obtain ⟨mw, fw, law, lew, lzw, ltw, lnw, lcw, lxw, lqw⟩ := hxw
  have hcl := hyc.cl lxw
  have hT := rlt _ (List.mem_of_getElem? ht)
  have hu := lay_u (T := t) (ln := i) rcr (fr := esq t i σ.sh.cs σ.wd p.toNat) (to := esq t i σ.sh.cs σ.wd (p.toNat + 1)) (by have h1 := esq_b t i σ.sh.cs σ.wd p.toNat; have h2 := esq_b t i σ.sh.cs σ.wd (p.toNat + 1); have h3 := esq_m t i σ.sh.cs σ.wd p.toNat; omega)
  have hrl : (rwx r (lay t i σ.sh.cs (esq t i σ.sh.cs σ.wd p.toNat) (esq t i σ.sh.cs σ.wd (p.toNat + 1)))).length ≤ 1000 := by unfold rwx; split <;> omega
  have hkl := (List.getElem?_eq_some_iff.mp hd).1
  refine z_aload_n (pc := 0) (j := 0) C dX1_rowChar_0 rfl rfl ?_
  refine z_iload_n (pc := 1) (j := 1) C dX1_rowChar_1 rfl rfl ?_
  refine z_iload_n (pc := 2) (j := 2) C dX1_rowChar_2 rfl rfl ?_
  refine z_iload_n (pc := 3) (j := 3) C dX1_rowChar_3 rfl rfl ?_
  refine z_callV (pc := 4) (n := 3) (kc' := (pmC (t.length + 2) t.length σ.sh.cs.length - pmC (t.length + 2) t.length σ.sh.cs.length)) (ks' := (pmS (t.length + 2) t.length σ.sh.cs.length - pmS (t.length + 2) t.length σ.sh.cs.length)) C (op_row C.t hW (i := i) (by omega) ht (p := p) (by omega) hex (r := r) hr) (lw_V q2024 q2026 qs24 q63 q2027) (by decide +kernel) ⟨by decide, by decide⟩ hc0 rfl rfl rfl (Nat.le_of_ble_eq_true rfl) dX1_rowChar_4 (by omega) (by omega) (zrk fun w h1 hp => ?_) zrx
  obtain ⟨b_2, v_2, rfl, hb_2, k3⟩ := hp
  have kh1 : zkeep h h1 [] := zkeep.loc zkeep.rf k3 zall_nil
  have hx_4 := hb_2
  obtain ⟨z_4, f_4, hb_4, hv_4, hlen_4, hcap_4, hcon_4, hfit_4, hasc_4⟩ := hx_4
  show Z X h1 (pmC (t.length + 2) t.length σ.sh.cs.length - pmC (t.length + 2) t.length σ.sh.cs.length) (pmS (t.length + 2) t.length σ.sh.cs.length - pmS (t.length + 2) t.length σ.sh.cs.length) [(0, .ref c), (1, .int (iI i)), (2, .int (iI p)), (3, .int (iI r)), (4, .int (iI k))] 7 [.ref b_2]
  refine z_astore (pc := 7) (L' := [(5, .ref b_2), (0, .ref c), (1, .int (iI i)), (2, .int (iI p)), (3, .int (iI r)), (4, .int (iI k))]) C dX1_rowChar_7 (by rw [hnL]; decide) rfl ?_
  refine z_iload (pc := 9) (j := 5) C dX1_rowChar_9 rfl ?_
  refine z_if_ge (pc := 11) (tgt := 22) C dX1_rowChar_11 (by decide) (by omega) (fun c11 => ?_) (fun c11 => by exfalso; omega)
  refine z_iload (pc := 22) (j := 5) C dX1_rowChar_22 rfl ?_
  refine z_aload (pc := 24) (j := 0) C dX1_rowChar_24 rfl ?_
  refine z_callV (pc := 26) (n := 0) (kc' := (pmC (t.length + 2) t.length σ.sh.cs.length - pmC (t.length + 2) t.length σ.sh.cs.length)) (ks' := (pmS (t.length + 2) t.length σ.sh.cs.length - pmS (t.length + 2) t.length σ.sh.cs.length)) C (ct_B_length (cap := 0) (f := fun _ => .null) C.t hb_4) (lw_V q2036 q439 q440 q82 q441) (by decide +kernel) ⟨by decide, by decide⟩ hb_4 rfl rfl rfl (Nat.le_of_ble_eq_true rfl) dX1_rowChar_26 (by omega) (by omega) (zpk (st' := [.int (iI (((rwx r (lay t i σ.sh.cs (esq t i σ.sh.cs σ.wd p.toNat) (esq t i σ.sh.cs σ.wd (p.toNat + 1)))).length : Nat) : Int)), .int (iI k)]) rfl ?_) zrx
  refine z_icmp_ge (pc := 29) (tgt := 42) C dX1_rowChar_29 (by decide) (by omega) (by omega) (fun c29 => by exfalso; omega) (fun c29 => ?_)
  refine z_aload (pc := 32) (j := 0) C dX1_rowChar_32 rfl ?_
  refine z_iload (pc := 34) (j := 5) C dX1_rowChar_34 rfl ?_
  refine z_callV (pc := 36) (n := 1) (kc' := (pmC (t.length + 2) t.length σ.sh.cs.length - pmC (t.length + 2) t.length σ.sh.cs.length)) (ks' := (pmS (t.length + 2) t.length σ.sh.cs.length - pmS (t.length + 2) t.length σ.sh.cs.length)) C (ct_B_charAt C.t hb_2 (i := k) (c := d) hk hd) (lw_V q2044 q2045 q2046 q82 q2047) (by decide +kernel) ⟨by decide, by decide⟩ hb_4 rfl rfl rfl (Nat.le_of_ble_eq_true rfl) dX1_rowChar_36 (by omega) (by omega) (zpk (st' := [.int (iI d)]) rfl ?_) zrx
  refine z_goto (pc := 39) (tgt := 43) C dX1_rowChar_39 (by decide) ?_
  exact z_ireturn (pc := 43) C (by rw [hXp]; exact ⟨_, rfl, rfl, kh1⟩) dX1_rowChar_43
set_option maxHeartbeats 4000000 in
theorem op_rowChar2 {l : Launch} (hl : l.stackTraces = false) {Γ : zCx} {h : zH} {c : Nat} {A : zWA} {σ : zSt} (hW : csW Γ h c A σ) {i : Int} {t : List Int} (hi : 0 ≤ i) (ht : σ.sh.ls[i.toNat]? = some t) {p : Int} (hp : 0 ≤ p ∧ p ≤ 2147483647) (hex : p = 0 ∨ esq t i σ.sh.cs σ.wd p.toNat < (t.length : Nat)) {r : Int} (hr : r = 0 ∨ r = 1) {k : Int} (hkr : -2147483648 ≤ k ∧ k ≤ 2147483647) (hk : (((rwx r (lay t i σ.sh.cs (esq t i σ.sh.cs σ.wd p.toNat) (esq t i σ.sh.cs σ.wd (p.toNat + 1)))).length : Nat) : Int) ≤ k)  : zMet l yX1_rowChar (ws_ yX1_rowChar cX1_rowChar 6 (some .int)) ({ frames := 14, cells := pmC (t.length + 2) t.length σ.sh.cs.length, slots := pmS (t.length + 2) t.length σ.sh.cs.length, locals := 317 }) Γ h [.ref c, .int (iI i), .int (iI p), .int (iI r), .int (iI k)] (zrt (fun w h' => w = some (.int (iI (-1))) ∧ zkeep h h' [])) (pmC (t.length + 2) t.length σ.sh.cs.length) (pmS (t.length + 2) t.length σ.sh.cs.length) := by
  refine zMet.of (cc := cX1_rowChar) hl (plainFor_of_name (by decide +kernel)) (Nat.le_of_ble_eq_true rfl) ?_
  intro X hXl hXΓ hXp C hnm hnL
  have C : zC X cX1_rowChar RX1 (some .int) 14 317 [] := C
  have hnL : X.2.1.2.2.2.2 = 6 := hnL
  subst hXl hXΓ
  show Z X h (pmC (t.length + 2) t.length σ.sh.cs.length) (pmS (t.length + 2) t.length σ.sh.cs.length) [(0, .ref c), (1, .int (iI i)), (2, .int (iI p)), (3, .int (iI r)), (4, .int (iI k))] 0 []
  obtain ⟨⟨tf, hc0, htx, hch⟩, hdq, ⟨lq, kq, lys, ys, hsx, hfl, hls, hl0, hyc, hkx⟩, hhi, hnd, hR⟩ := id hW
  obtain ⟨rsi, rff, rwd, rtl, rtx, rsh, rhi, rhl⟩ := id hR
  obtain ⟨rcl, rcr, rll, rlt, rkt, rkm, rks⟩ := rsh
  have hll := hls.len
  have hyl := hyc.len
  obtain ⟨lm, le0, ln0, lf, hlq, hle, hln, hlN, hlx⟩ := id hfl
  have hxw := hl0
  obtain ⟨mw, fw, law, lew, lzw, ltw, lnw, lcw, lxw, lqw⟩ := hxw
  have hcl := hyc.cl lxw
  have hT := rlt _ (List.mem_of_getElem? ht)
  have hu := lay_u (T := t) (ln := i) rcr (fr := esq t i σ.sh.cs σ.wd p.toNat) (to := esq t i σ.sh.cs σ.wd (p.toNat + 1)) (by have h1 := esq_b t i σ.sh.cs σ.wd p.toNat; have h2 := esq_b t i σ.sh.cs σ.wd (p.toNat + 1); have h3 := esq_m t i σ.sh.cs σ.wd p.toNat; omega)
  have hrl : (rwx r (lay t i σ.sh.cs (esq t i σ.sh.cs σ.wd p.toNat) (esq t i σ.sh.cs σ.wd (p.toNat + 1)))).length ≤ 1000 := by unfold rwx; split <;> omega
  refine z_aload_n (pc := 0) (j := 0) C dX1_rowChar_0 rfl rfl ?_
  refine z_iload_n (pc := 1) (j := 1) C dX1_rowChar_1 rfl rfl ?_
  refine z_iload_n (pc := 2) (j := 2) C dX1_rowChar_2 rfl rfl ?_
  refine z_iload_n (pc := 3) (j := 3) C dX1_rowChar_3 rfl rfl ?_
  refine z_callV (pc := 4) (n := 3) (kc' := (pmC (t.length + 2) t.length σ.sh.cs.length - pmC (t.length + 2) t.length σ.sh.cs.length)) (ks' := (pmS (t.length + 2) t.length σ.sh.cs.length - pmS (t.length + 2) t.length σ.sh.cs.length)) C (op_row C.t hW (i := i) (by omega) ht (p := p) (by omega) hex (r := r) hr) (lw_V q2024 q2026 qs24 q63 q2027) (by decide +kernel) ⟨by decide, by decide⟩ hc0 rfl rfl rfl (Nat.le_of_ble_eq_true rfl) dX1_rowChar_4 (by omega) (by omega) (zrk fun w h1 hp => ?_) zrx
  obtain ⟨b_2, v_2, rfl, hb_2, k3⟩ := hp
  have kh1 : zkeep h h1 [] := zkeep.loc zkeep.rf k3 zall_nil
  have hx_4 := hb_2
  obtain ⟨z_4, f_4, hb_4, hv_4, hlen_4, hcap_4, hcon_4, hfit_4, hasc_4⟩ := hx_4
  show Z X h1 (pmC (t.length + 2) t.length σ.sh.cs.length - pmC (t.length + 2) t.length σ.sh.cs.length) (pmS (t.length + 2) t.length σ.sh.cs.length - pmS (t.length + 2) t.length σ.sh.cs.length) [(0, .ref c), (1, .int (iI i)), (2, .int (iI p)), (3, .int (iI r)), (4, .int (iI k))] 7 [.ref b_2]
  refine z_astore (pc := 7) (L' := [(5, .ref b_2), (0, .ref c), (1, .int (iI i)), (2, .int (iI p)), (3, .int (iI r)), (4, .int (iI k))]) C dX1_rowChar_7 (by rw [hnL]; decide) rfl ?_
  refine z_iload (pc := 9) (j := 5) C dX1_rowChar_9 rfl ?_
  refine z_if_ge (pc := 11) (tgt := 22) C dX1_rowChar_11 (by decide) (by omega) (fun c11 => ?_) (fun c11 => by exfalso; omega)
  refine z_iload (pc := 22) (j := 5) C dX1_rowChar_22 rfl ?_
  refine z_aload (pc := 24) (j := 0) C dX1_rowChar_24 rfl ?_
  refine z_callV (pc := 26) (n := 0) (kc' := (pmC (t.length + 2) t.length σ.sh.cs.length - pmC (t.length + 2) t.length σ.sh.cs.length)) (ks' := (pmS (t.length + 2) t.length σ.sh.cs.length - pmS (t.length + 2) t.length σ.sh.cs.length)) C (ct_B_length (cap := 0) (f := fun _ => .null) C.t hb_4) (lw_V q2036 q439 q440 q82 q441) (by decide +kernel) ⟨by decide, by decide⟩ hb_4 rfl rfl rfl (Nat.le_of_ble_eq_true rfl) dX1_rowChar_26 (by omega) (by omega) (zpk (st' := [.int (iI (((rwx r (lay t i σ.sh.cs (esq t i σ.sh.cs σ.wd p.toNat) (esq t i σ.sh.cs σ.wd (p.toNat + 1)))).length : Nat) : Int)), .int (iI k)]) rfl ?_) zrx
  refine z_icmp_ge (pc := 29) (tgt := 42) C dX1_rowChar_29 (by decide) (by omega) (by omega) (fun c29 => ?_) (fun c29 => by exfalso; omega)
  refine z_iconst (pc := 42) C dX1_rowChar_42 ?_
  exact z_ireturn (pc := 43) C (by rw [hXp]; exact ⟨_, rfl, rfl, kh1⟩) dX1_rowChar_43
set_option maxHeartbeats 4000000 in
theorem op_rowChar_b5 {l : Launch} (hl : l.stackTraces = false) {Γ : zCx} {h : zH} {c : Nat} {A : zWA} {σ : zSt} (hW : csW Γ h c A σ) {i : Int} {t : List Int} (hi : 0 ≤ i) (ht : σ.sh.ls[i.toNat]? = some t) {p : Int} (hp : 0 ≤ p ∧ p ≤ 2147483647) (hex : p = 0 ∨ esq t i σ.sh.cs σ.wd p.toNat < (t.length : Nat)) {r : Int} (hr : r = 0 ∨ r = 1) {k : Int} (hk : -2147483648 ≤ k ∧ k < 0)  : zMet l yX1_rowChar (ws_ yX1_rowChar cX1_rowChar 6 (some .int)) ({ frames := 14, cells := (pmC (t.length + 2) t.length σ.sh.cs.length + 1), slots := (pmS (t.length + 2) t.length σ.sh.cs.length + 6), locals := 317 }) Γ h [.ref c, .int (iI i), .int (iI p), .int (iI r), .int (iI k)] (zth "java/lang/IndexOutOfBoundsException" fun _ h' => zkeep h h' []) (pmC (t.length + 2) t.length σ.sh.cs.length + 1) (pmS (t.length + 2) t.length σ.sh.cs.length + 6) := by
  refine zMet.of (cc := cX1_rowChar) hl (plainFor_of_name (by decide +kernel)) (Nat.le_of_ble_eq_true rfl) ?_
  intro X hXl hXΓ hXp C hnm hnL
  have C : zC X cX1_rowChar RX1 (some .int) 14 317 [] := C
  have hnL : X.2.1.2.2.2.2 = 6 := hnL
  subst hXl hXΓ
  show Z X h (pmC (t.length + 2) t.length σ.sh.cs.length + 1) (pmS (t.length + 2) t.length σ.sh.cs.length + 6) [(0, .ref c), (1, .int (iI i)), (2, .int (iI p)), (3, .int (iI r)), (4, .int (iI k))] 0 []
  obtain ⟨⟨tf, hc0, htx, hch⟩, hdq, ⟨lq, kq, lys, ys, hsx, hfl, hls, hl0, hyc, hkx⟩, hhi, hnd, hR⟩ := id hW
  obtain ⟨rsi, rff, rwd, rtl, rtx, rsh, rhi, rhl⟩ := id hR
  obtain ⟨rcl, rcr, rll, rlt, rkt, rkm, rks⟩ := rsh
  have hll := hls.len
  have hyl := hyc.len
  obtain ⟨lm, le0, ln0, lf, hlq, hle, hln, hlN, hlx⟩ := id hfl
  have hxw := hl0
  obtain ⟨mw, fw, law, lew, lzw, ltw, lnw, lcw, lxw, lqw⟩ := hxw
  have hcl := hyc.cl lxw
  have hT := rlt _ (List.mem_of_getElem? ht)
  have hu := lay_u (T := t) (ln := i) rcr (fr := esq t i σ.sh.cs σ.wd p.toNat) (to := esq t i σ.sh.cs σ.wd (p.toNat + 1)) (by have h1 := esq_b t i σ.sh.cs σ.wd p.toNat; have h2 := esq_b t i σ.sh.cs σ.wd (p.toNat + 1); have h3 := esq_m t i σ.sh.cs σ.wd p.toNat; omega)
  have hrl : (rwx r (lay t i σ.sh.cs (esq t i σ.sh.cs σ.wd p.toNat) (esq t i σ.sh.cs σ.wd (p.toNat + 1)))).length ≤ 1000 := by unfold rwx; split <;> omega
  refine z_aload_n (pc := 0) (j := 0) C dX1_rowChar_0 rfl rfl ?_
  refine z_iload_n (pc := 1) (j := 1) C dX1_rowChar_1 rfl rfl ?_
  refine z_iload_n (pc := 2) (j := 2) C dX1_rowChar_2 rfl rfl ?_
  refine z_iload_n (pc := 3) (j := 3) C dX1_rowChar_3 rfl rfl ?_
  refine z_callV (pc := 4) (n := 3) (kc' := ((pmC (t.length + 2) t.length σ.sh.cs.length + 1) - pmC (t.length + 2) t.length σ.sh.cs.length)) (ks' := ((pmS (t.length + 2) t.length σ.sh.cs.length + 6) - pmS (t.length + 2) t.length σ.sh.cs.length)) C (op_row C.t hW (i := i) (by omega) ht (p := p) (by omega) hex (r := r) hr) (lw_V q2024 q2026 qs24 q63 q2027) (by decide +kernel) ⟨by decide, by decide⟩ hc0 rfl rfl rfl (Nat.le_of_ble_eq_true rfl) dX1_rowChar_4 (by omega) (by omega) (zrk fun w h1 hp => ?_) zrx
  obtain ⟨b_2, v_2, rfl, hb_2, k3⟩ := hp
  have kh1 : zkeep h h1 [] := zkeep.loc zkeep.rf k3 zall_nil
  have hx_4 := hb_2
  obtain ⟨z_4, f_4, hb_4, hv_4, hlen_4, hcap_4, hcon_4, hfit_4, hasc_4⟩ := hx_4
  show Z X h1 ((pmC (t.length + 2) t.length σ.sh.cs.length + 1) - pmC (t.length + 2) t.length σ.sh.cs.length) ((pmS (t.length + 2) t.length σ.sh.cs.length + 6) - pmS (t.length + 2) t.length σ.sh.cs.length) [(0, .ref c), (1, .int (iI i)), (2, .int (iI p)), (3, .int (iI r)), (4, .int (iI k))] 7 [.ref b_2]
  refine z_astore (pc := 7) (L' := [(5, .ref b_2), (0, .ref c), (1, .int (iI i)), (2, .int (iI p)), (3, .int (iI r)), (4, .int (iI k))]) C dX1_rowChar_7 (by rw [hnL]; decide) rfl ?_
  refine z_iload (pc := 9) (j := 5) C dX1_rowChar_9 rfl ?_
  refine z_if_ge (pc := 11) (tgt := 22) C dX1_rowChar_11 (by decide) (by omega) (fun c11 => by exfalso; omega) (fun c11 => ?_)
  exact z_throw0 (pc := 14) (names := ["java/lang/RuntimeException", "java/lang/Exception"]) C q1698 q92 (by decide +kernel) (by decide +kernel) th_I (by decide +kernel) dX1_rowChar_14 dX1_rowChar_17 dX1_rowChar_18 dX1_rowChar_21 (fun x hx => nomatch hx) (by decide) (Nat.le_of_ble_eq_true rfl) (by omega) (by omega) (fun q => by rw [hXp]; exact ⟨_, rfl, kh1⟩)
set_option maxHeartbeats 4000000 in
theorem op_rowLength_b1 {l : Launch} (hl : l.stackTraces = false) {Γ : zCx} {h : zH} {c : Nat} {A : zWA} {σ : zSt} (hW : csW Γ h c A σ) {i : Int} (hi : -2147483648 ≤ i ∧ i ≤ 2147483647) (hb : ¬ (0 ≤ i ∧ i < (σ.sh.ls.length : Nat))) {p r : Int}  : zMet l yX1_rowLength (ws_ yX1_rowLength cX1_rowLength 4 (some .int)) ({ frames := 8, cells := 1, slots := 6, locals := 126 }) Γ h [.ref c, .int (iI i), .int (iI p), .int (iI r)] (zthp h "java/lang/IndexOutOfBoundsException") 1 6 := by
  refine zMet.of (cc := cX1_rowLength) hl (plainFor_of_name (by decide +kernel)) (Nat.le_of_ble_eq_true rfl) ?_
  intro X hXl hXΓ hXp C hnm hnL
  have C : zC X cX1_rowLength RX1 (some .int) 8 126 [] := C
  have hnL : X.2.1.2.2.2.2 = 4 := hnL
  subst hXl hXΓ
  show Z X h 1 6 [(0, .ref c), (1, .int (iI i)), (2, .int (iI p)), (3, .int (iI r))] 0 []
  obtain ⟨⟨tf, hc0, htx, hch⟩, hdq, ⟨lq, kq, lys, ys, hsx, hfl, hls, hl0, hyc, hkx⟩, hhi, hnd, hR⟩ := id hW
  obtain ⟨rsi, rff, rwd, rtl, rtx, rsh, rhi, rhl⟩ := id hR
  obtain ⟨rcl, rcr, rll, rlt, rkt, rkm, rks⟩ := rsh
  have hll := hls.len
  have hyl := hyc.len
  obtain ⟨lm, le0, ln0, lf, hlq, hle, hln, hlN, hlx⟩ := id hfl
  have hxw := hl0
  obtain ⟨mw, fw, law, lew, lzw, ltw, lnw, lcw, lxw, lqw⟩ := hxw
  have hcl := hyc.cl lxw
  refine z_aload_n (pc := 0) (j := 0) C dX1_rowLength_0 rfl rfl ?_
  refine z_iload_n (pc := 1) (j := 1) C dX1_rowLength_1 rfl rfl ?_
  refine z_iload_n (pc := 2) (j := 2) C dX1_rowLength_2 rfl rfl ?_
  refine z_iload_n (pc := 3) (j := 3) C dX1_rowLength_3 rfl rfl ?_
  refine z_callV (pc := 4) (n := 3) (kc' := 0) (ks' := 0) C (op_row_b1 C.t hW (i := i) (by omega) (by omega) (p := p) (r := r)) (lw_V q2024 q2026 qs24 q63 q2027) (by decide +kernel) ⟨by decide, by decide⟩ hc0 rfl rfl rfl (Nat.le_of_ble_eq_true rfl) dX1_rowLength_4 (by omega) (by omega) zthk (zthx fun q2 h1 hp => ?_)
  rw [hp]
  exact zx_out C (fun x hx => nomatch hx) (by rw [hXp]; exact ⟨_, rfl, rfl⟩)
set_option maxHeartbeats 4000000 in
theorem op_rowChar_b1 {l : Launch} (hl : l.stackTraces = false) {Γ : zCx} {h : zH} {c : Nat} {A : zWA} {σ : zSt} (hW : csW Γ h c A σ) {i : Int} (hi : -2147483648 ≤ i ∧ i ≤ 2147483647) (hb : ¬ (0 ≤ i ∧ i < (σ.sh.ls.length : Nat))) {p r : Int} {k : Int}  : zMet l yX1_rowChar (ws_ yX1_rowChar cX1_rowChar 6 (some .int)) ({ frames := 8, cells := 1, slots := 6, locals := 126 }) Γ h [.ref c, .int (iI i), .int (iI p), .int (iI r), .int (iI k)] (zthp h "java/lang/IndexOutOfBoundsException") 1 6 := by
  refine zMet.of (cc := cX1_rowChar) hl (plainFor_of_name (by decide +kernel)) (Nat.le_of_ble_eq_true rfl) ?_
  intro X hXl hXΓ hXp C hnm hnL
  have C : zC X cX1_rowChar RX1 (some .int) 8 126 [] := C
  have hnL : X.2.1.2.2.2.2 = 6 := hnL
  subst hXl hXΓ
  show Z X h 1 6 [(0, .ref c), (1, .int (iI i)), (2, .int (iI p)), (3, .int (iI r)), (4, .int (iI k))] 0 []
  obtain ⟨⟨tf, hc0, htx, hch⟩, hdq, ⟨lq, kq, lys, ys, hsx, hfl, hls, hl0, hyc, hkx⟩, hhi, hnd, hR⟩ := id hW
  obtain ⟨rsi, rff, rwd, rtl, rtx, rsh, rhi, rhl⟩ := id hR
  obtain ⟨rcl, rcr, rll, rlt, rkt, rkm, rks⟩ := rsh
  have hll := hls.len
  have hyl := hyc.len
  obtain ⟨lm, le0, ln0, lf, hlq, hle, hln, hlN, hlx⟩ := id hfl
  have hxw := hl0
  obtain ⟨mw, fw, law, lew, lzw, ltw, lnw, lcw, lxw, lqw⟩ := hxw
  have hcl := hyc.cl lxw
  refine z_aload_n (pc := 0) (j := 0) C dX1_rowChar_0 rfl rfl ?_
  refine z_iload_n (pc := 1) (j := 1) C dX1_rowChar_1 rfl rfl ?_
  refine z_iload_n (pc := 2) (j := 2) C dX1_rowChar_2 rfl rfl ?_
  refine z_iload_n (pc := 3) (j := 3) C dX1_rowChar_3 rfl rfl ?_
  refine z_callV (pc := 4) (n := 3) (kc' := 0) (ks' := 0) C (op_row_b1 C.t hW (i := i) (by omega) (by omega) (p := p) (r := r)) (lw_V q2024 q2026 qs24 q63 q2027) (by decide +kernel) ⟨by decide, by decide⟩ hc0 rfl rfl rfl (Nat.le_of_ble_eq_true rfl) dX1_rowChar_4 (by omega) (by omega) zthk (zthx fun q2 h1 hp => ?_)
  rw [hp]
  exact zx_out C (fun x hx => nomatch hx) (by rw [hXp]; exact ⟨_, rfl, rfl⟩)
set_option maxHeartbeats 4000000 in
theorem op_rowLength_b2 {l : Launch} (hl : l.stackTraces = false) {Γ : zCx} {h : zH} {c : Nat} {A : zWA} {σ : zSt} (hW : csW Γ h c A σ) {i : Int} {t : List Int} (hi : 0 ≤ i) (ht : σ.sh.ls[i.toNat]? = some t) {p r : Int} (hp : -2147483648 ≤ p ∧ p < 0)  : zMet l yX1_rowLength (ws_ yX1_rowLength cX1_rowLength 4 (some .int)) ({ frames := 7, cells := 1, slots := 6, locals := 105 }) Γ h [.ref c, .int (iI i), .int (iI p), .int (iI r)] (zthp h "java/lang/IndexOutOfBoundsException") 1 6 := by
  refine zMet.of (cc := cX1_rowLength) hl (plainFor_of_name (by decide +kernel)) (Nat.le_of_ble_eq_true rfl) ?_
  intro X hXl hXΓ hXp C hnm hnL
  have C : zC X cX1_rowLength RX1 (some .int) 7 105 [] := C
  have hnL : X.2.1.2.2.2.2 = 4 := hnL
  subst hXl hXΓ
  show Z X h 1 6 [(0, .ref c), (1, .int (iI i)), (2, .int (iI p)), (3, .int (iI r))] 0 []
  obtain ⟨⟨tf, hc0, htx, hch⟩, hdq, ⟨lq, kq, lys, ys, hsx, hfl, hls, hl0, hyc, hkx⟩, hhi, hnd, hR⟩ := id hW
  obtain ⟨rsi, rff, rwd, rtl, rtx, rsh, rhi, rhl⟩ := id hR
  obtain ⟨rcl, rcr, rll, rlt, rkt, rkm, rks⟩ := rsh
  have hll := hls.len
  have hyl := hyc.len
  obtain ⟨lm, le0, ln0, lf, hlq, hle, hln, hlN, hlx⟩ := id hfl
  have hxw := hl0
  obtain ⟨mw, fw, law, lew, lzw, ltw, lnw, lcw, lxw, lqw⟩ := hxw
  have hcl := hyc.cl lxw
  refine z_aload_n (pc := 0) (j := 0) C dX1_rowLength_0 rfl rfl ?_
  refine z_iload_n (pc := 1) (j := 1) C dX1_rowLength_1 rfl rfl ?_
  refine z_iload_n (pc := 2) (j := 2) C dX1_rowLength_2 rfl rfl ?_
  refine z_iload_n (pc := 3) (j := 3) C dX1_rowLength_3 rfl rfl ?_
  refine z_callV (pc := 4) (n := 3) (kc' := 0) (ks' := 0) C (op_row_b2 C.t hW (i := i) (by omega) ht (p := p) (by omega)) (lw_V q2024 q2026 qs24 q63 q2027) (by decide +kernel) ⟨by decide, by decide⟩ hc0 rfl rfl rfl (Nat.le_of_ble_eq_true rfl) dX1_rowLength_4 (by omega) (by omega) zthk (zthx fun q2 h1 hp => ?_)
  rw [hp]
  exact zx_out C (fun x hx => nomatch hx) (by rw [hXp]; exact ⟨_, rfl, rfl⟩)
set_option maxHeartbeats 4000000 in
theorem op_rowChar_b2 {l : Launch} (hl : l.stackTraces = false) {Γ : zCx} {h : zH} {c : Nat} {A : zWA} {σ : zSt} (hW : csW Γ h c A σ) {i : Int} {t : List Int} (hi : 0 ≤ i) (ht : σ.sh.ls[i.toNat]? = some t) {p r : Int} (hp : -2147483648 ≤ p ∧ p < 0) {k : Int}  : zMet l yX1_rowChar (ws_ yX1_rowChar cX1_rowChar 6 (some .int)) ({ frames := 7, cells := 1, slots := 6, locals := 105 }) Γ h [.ref c, .int (iI i), .int (iI p), .int (iI r), .int (iI k)] (zthp h "java/lang/IndexOutOfBoundsException") 1 6 := by
  refine zMet.of (cc := cX1_rowChar) hl (plainFor_of_name (by decide +kernel)) (Nat.le_of_ble_eq_true rfl) ?_
  intro X hXl hXΓ hXp C hnm hnL
  have C : zC X cX1_rowChar RX1 (some .int) 7 105 [] := C
  have hnL : X.2.1.2.2.2.2 = 6 := hnL
  subst hXl hXΓ
  show Z X h 1 6 [(0, .ref c), (1, .int (iI i)), (2, .int (iI p)), (3, .int (iI r)), (4, .int (iI k))] 0 []
  obtain ⟨⟨tf, hc0, htx, hch⟩, hdq, ⟨lq, kq, lys, ys, hsx, hfl, hls, hl0, hyc, hkx⟩, hhi, hnd, hR⟩ := id hW
  obtain ⟨rsi, rff, rwd, rtl, rtx, rsh, rhi, rhl⟩ := id hR
  obtain ⟨rcl, rcr, rll, rlt, rkt, rkm, rks⟩ := rsh
  have hll := hls.len
  have hyl := hyc.len
  obtain ⟨lm, le0, ln0, lf, hlq, hle, hln, hlN, hlx⟩ := id hfl
  have hxw := hl0
  obtain ⟨mw, fw, law, lew, lzw, ltw, lnw, lcw, lxw, lqw⟩ := hxw
  have hcl := hyc.cl lxw
  refine z_aload_n (pc := 0) (j := 0) C dX1_rowChar_0 rfl rfl ?_
  refine z_iload_n (pc := 1) (j := 1) C dX1_rowChar_1 rfl rfl ?_
  refine z_iload_n (pc := 2) (j := 2) C dX1_rowChar_2 rfl rfl ?_
  refine z_iload_n (pc := 3) (j := 3) C dX1_rowChar_3 rfl rfl ?_
  refine z_callV (pc := 4) (n := 3) (kc' := 0) (ks' := 0) C (op_row_b2 C.t hW (i := i) (by omega) ht (p := p) (by omega)) (lw_V q2024 q2026 qs24 q63 q2027) (by decide +kernel) ⟨by decide, by decide⟩ hc0 rfl rfl rfl (Nat.le_of_ble_eq_true rfl) dX1_rowChar_4 (by omega) (by omega) zthk (zthx fun q2 h1 hp => ?_)
  rw [hp]
  exact zx_out C (fun x hx => nomatch hx) (by rw [hXp]; exact ⟨_, rfl, rfl⟩)
set_option maxHeartbeats 4000000 in
theorem op_rowLength_b3 {l : Launch} (hl : l.stackTraces = false) {Γ : zCx} {h : zH} {c : Nat} {A : zWA} {σ : zSt} (hW : csW Γ h c A σ) {i : Int} {t : List Int} (hi : 0 ≤ i) (ht : σ.sh.ls[i.toNat]? = some t) {p : Int} (hp : 0 ≤ p ∧ p ≤ 2147483647) (hex : ¬ (p = 0 ∨ esq t i σ.sh.cs σ.wd p.toNat < (t.length : Nat))) {r : Int} (hr : -2147483648 ≤ r ∧ r ≤ 2147483647)  : zMet l yX1_rowLength (ws_ yX1_rowLength cX1_rowLength 4 (some .int)) ({ frames := 14, cells := (pmC (t.length + 2) t.length σ.sh.cs.length + 1), slots := (pmS (t.length + 2) t.length σ.sh.cs.length + 6), locals := 317 }) Γ h [.ref c, .int (iI i), .int (iI p), .int (iI r)] (zth "java/lang/IndexOutOfBoundsException" fun _ h' => zkeep h h' []) (pmC (t.length + 2) t.length σ.sh.cs.length + 1) (pmS (t.length + 2) t.length σ.sh.cs.length + 6) := by
  refine zMet.of (cc := cX1_rowLength) hl (plainFor_of_name (by decide +kernel)) (Nat.le_of_ble_eq_true rfl) ?_
  intro X hXl hXΓ hXp C hnm hnL
  have C : zC X cX1_rowLength RX1 (some .int) 14 317 [] := C
  have hnL : X.2.1.2.2.2.2 = 4 := hnL
  subst hXl hXΓ
  show Z X h (pmC (t.length + 2) t.length σ.sh.cs.length + 1) (pmS (t.length + 2) t.length σ.sh.cs.length + 6) [(0, .ref c), (1, .int (iI i)), (2, .int (iI p)), (3, .int (iI r))] 0 []
  obtain ⟨⟨tf, hc0, htx, hch⟩, hdq, ⟨lq, kq, lys, ys, hsx, hfl, hls, hl0, hyc, hkx⟩, hhi, hnd, hR⟩ := id hW
  obtain ⟨rsi, rff, rwd, rtl, rtx, rsh, rhi, rhl⟩ := id hR
  obtain ⟨rcl, rcr, rll, rlt, rkt, rkm, rks⟩ := rsh
  have hll := hls.len
  have hyl := hyc.len
  obtain ⟨lm, le0, ln0, lf, hlq, hle, hln, hlN, hlx⟩ := id hfl
  have hxw := hl0
  obtain ⟨mw, fw, law, lew, lzw, ltw, lnw, lcw, lxw, lqw⟩ := hxw
  have hcl := hyc.cl lxw
  refine z_aload_n (pc := 0) (j := 0) C dX1_rowLength_0 rfl rfl ?_
  refine z_iload_n (pc := 1) (j := 1) C dX1_rowLength_1 rfl rfl ?_
  refine z_iload_n (pc := 2) (j := 2) C dX1_rowLength_2 rfl rfl ?_
  refine z_iload_n (pc := 3) (j := 3) C dX1_rowLength_3 rfl rfl ?_
  refine z_callV (pc := 4) (n := 3) (kc' := ((pmC (t.length + 2) t.length σ.sh.cs.length + 1) - (pmC (t.length + 2) t.length σ.sh.cs.length + 1))) (ks' := ((pmS (t.length + 2) t.length σ.sh.cs.length + 6) - (pmS (t.length + 2) t.length σ.sh.cs.length + 6))) C (op_row_b3 C.t hW (i := i) (by omega) ht (p := p) (by omega) hex (r := r) (by omega)) (lw_V q2024 q2026 qs24 q63 q2027) (by decide +kernel) ⟨by decide, by decide⟩ hc0 rfl rfl rfl (Nat.le_of_ble_eq_true rfl) dX1_rowLength_4 (by omega) (by omega) zthk (zthx fun q2 h1 hp => ?_)
  exact zx_out C (fun x hx => nomatch hx) (by rw [hXp]; exact ⟨_, rfl, hp⟩)
set_option maxHeartbeats 4000000 in
theorem op_rowChar_b3 {l : Launch} (hl : l.stackTraces = false) {Γ : zCx} {h : zH} {c : Nat} {A : zWA} {σ : zSt} (hW : csW Γ h c A σ) {i : Int} {t : List Int} (hi : 0 ≤ i) (ht : σ.sh.ls[i.toNat]? = some t) {p : Int} (hp : 0 ≤ p ∧ p ≤ 2147483647) (hex : ¬ (p = 0 ∨ esq t i σ.sh.cs σ.wd p.toNat < (t.length : Nat))) {r : Int} (hr : -2147483648 ≤ r ∧ r ≤ 2147483647) {k : Int}  : zMet l yX1_rowChar (ws_ yX1_rowChar cX1_rowChar 6 (some .int)) ({ frames := 14, cells := (pmC (t.length + 2) t.length σ.sh.cs.length + 1), slots := (pmS (t.length + 2) t.length σ.sh.cs.length + 6), locals := 317 }) Γ h [.ref c, .int (iI i), .int (iI p), .int (iI r), .int (iI k)] (zth "java/lang/IndexOutOfBoundsException" fun _ h' => zkeep h h' []) (pmC (t.length + 2) t.length σ.sh.cs.length + 1) (pmS (t.length + 2) t.length σ.sh.cs.length + 6) := by
  refine zMet.of (cc := cX1_rowChar) hl (plainFor_of_name (by decide +kernel)) (Nat.le_of_ble_eq_true rfl) ?_
  intro X hXl hXΓ hXp C hnm hnL
  have C : zC X cX1_rowChar RX1 (some .int) 14 317 [] := C
  have hnL : X.2.1.2.2.2.2 = 6 := hnL
  subst hXl hXΓ
  show Z X h (pmC (t.length + 2) t.length σ.sh.cs.length + 1) (pmS (t.length + 2) t.length σ.sh.cs.length + 6) [(0, .ref c), (1, .int (iI i)), (2, .int (iI p)), (3, .int (iI r)), (4, .int (iI k))] 0 []
  obtain ⟨⟨tf, hc0, htx, hch⟩, hdq, ⟨lq, kq, lys, ys, hsx, hfl, hls, hl0, hyc, hkx⟩, hhi, hnd, hR⟩ := id hW
  obtain ⟨rsi, rff, rwd, rtl, rtx, rsh, rhi, rhl⟩ := id hR
  obtain ⟨rcl, rcr, rll, rlt, rkt, rkm, rks⟩ := rsh
  have hll := hls.len
  have hyl := hyc.len
  obtain ⟨lm, le0, ln0, lf, hlq, hle, hln, hlN, hlx⟩ := id hfl
  have hxw := hl0
  obtain ⟨mw, fw, law, lew, lzw, ltw, lnw, lcw, lxw, lqw⟩ := hxw
  have hcl := hyc.cl lxw
  refine z_aload_n (pc := 0) (j := 0) C dX1_rowChar_0 rfl rfl ?_
  refine z_iload_n (pc := 1) (j := 1) C dX1_rowChar_1 rfl rfl ?_
  refine z_iload_n (pc := 2) (j := 2) C dX1_rowChar_2 rfl rfl ?_
  refine z_iload_n (pc := 3) (j := 3) C dX1_rowChar_3 rfl rfl ?_
  refine z_callV (pc := 4) (n := 3) (kc' := ((pmC (t.length + 2) t.length σ.sh.cs.length + 1) - (pmC (t.length + 2) t.length σ.sh.cs.length + 1))) (ks' := ((pmS (t.length + 2) t.length σ.sh.cs.length + 6) - (pmS (t.length + 2) t.length σ.sh.cs.length + 6))) C (op_row_b3 C.t hW (i := i) (by omega) ht (p := p) (by omega) hex (r := r) (by omega)) (lw_V q2024 q2026 qs24 q63 q2027) (by decide +kernel) ⟨by decide, by decide⟩ hc0 rfl rfl rfl (Nat.le_of_ble_eq_true rfl) dX1_rowChar_4 (by omega) (by omega) zthk (zthx fun q2 h1 hp => ?_)
  exact zx_out C (fun x hx => nomatch hx) (by rw [hXp]; exact ⟨_, rfl, hp⟩)
set_option maxHeartbeats 4000000 in
theorem op_rowLength_b4 {l : Launch} (hl : l.stackTraces = false) {Γ : zCx} {h : zH} {c : Nat} {A : zWA} {σ : zSt} (hW : csW Γ h c A σ) {i : Int} {t : List Int} (hi : 0 ≤ i) (ht : σ.sh.ls[i.toNat]? = some t) {p : Int} (hp : 0 ≤ p ∧ p ≤ 2147483647) (hex : p = 0 ∨ esq t i σ.sh.cs σ.wd p.toNat < (t.length : Nat)) {r : Int} (hr : -2147483648 ≤ r ∧ r ≤ 2147483647) (hb : ¬ (r = 0 ∨ r = 1))  : zMet l yX1_rowLength (ws_ yX1_rowLength cX1_rowLength 4 (some .int)) ({ frames := 14, cells := (pmC (t.length + 2) t.length σ.sh.cs.length + 1), slots := (pmS (t.length + 2) t.length σ.sh.cs.length + 6), locals := 317 }) Γ h [.ref c, .int (iI i), .int (iI p), .int (iI r)] (zth "java/lang/IndexOutOfBoundsException" fun _ h' => zkeep h h' []) (pmC (t.length + 2) t.length σ.sh.cs.length + 1) (pmS (t.length + 2) t.length σ.sh.cs.length + 6) := by
  refine zMet.of (cc := cX1_rowLength) hl (plainFor_of_name (by decide +kernel)) (Nat.le_of_ble_eq_true rfl) ?_
  intro X hXl hXΓ hXp C hnm hnL
  have C : zC X cX1_rowLength RX1 (some .int) 14 317 [] := C
  have hnL : X.2.1.2.2.2.2 = 4 := hnL
  subst hXl hXΓ
  show Z X h (pmC (t.length + 2) t.length σ.sh.cs.length + 1) (pmS (t.length + 2) t.length σ.sh.cs.length + 6) [(0, .ref c), (1, .int (iI i)), (2, .int (iI p)), (3, .int (iI r))] 0 []
  obtain ⟨⟨tf, hc0, htx, hch⟩, hdq, ⟨lq, kq, lys, ys, hsx, hfl, hls, hl0, hyc, hkx⟩, hhi, hnd, hR⟩ := id hW
  obtain ⟨rsi, rff, rwd, rtl, rtx, rsh, rhi, rhl⟩ := id hR
  obtain ⟨rcl, rcr, rll, rlt, rkt, rkm, rks⟩ := rsh
  have hll := hls.len
  have hyl := hyc.len
  obtain ⟨lm, le0, ln0, lf, hlq, hle, hln, hlN, hlx⟩ := id hfl
  have hxw := hl0
  obtain ⟨mw, fw, law, lew, lzw, ltw, lnw, lcw, lxw, lqw⟩ := hxw
  have hcl := hyc.cl lxw
  refine z_aload_n (pc := 0) (j := 0) C dX1_rowLength_0 rfl rfl ?_
  refine z_iload_n (pc := 1) (j := 1) C dX1_rowLength_1 rfl rfl ?_
  refine z_iload_n (pc := 2) (j := 2) C dX1_rowLength_2 rfl rfl ?_
  refine z_iload_n (pc := 3) (j := 3) C dX1_rowLength_3 rfl rfl ?_
  refine z_callV (pc := 4) (n := 3) (kc' := ((pmC (t.length + 2) t.length σ.sh.cs.length + 1) - (pmC (t.length + 2) t.length σ.sh.cs.length + 1))) (ks' := ((pmS (t.length + 2) t.length σ.sh.cs.length + 6) - (pmS (t.length + 2) t.length σ.sh.cs.length + 6))) C (op_row_b4 C.t hW (i := i) (by omega) ht (p := p) (by omega) hex (r := r) (by omega) (by omega)) (lw_V q2024 q2026 qs24 q63 q2027) (by decide +kernel) ⟨by decide, by decide⟩ hc0 rfl rfl rfl (Nat.le_of_ble_eq_true rfl) dX1_rowLength_4 (by omega) (by omega) zthk (zthx fun q2 h1 hp => ?_)
  exact zx_out C (fun x hx => nomatch hx) (by rw [hXp]; exact ⟨_, rfl, hp⟩)
set_option maxHeartbeats 4000000 in
theorem op_rowChar_b4 {l : Launch} (hl : l.stackTraces = false) {Γ : zCx} {h : zH} {c : Nat} {A : zWA} {σ : zSt} (hW : csW Γ h c A σ) {i : Int} {t : List Int} (hi : 0 ≤ i) (ht : σ.sh.ls[i.toNat]? = some t) {p : Int} (hp : 0 ≤ p ∧ p ≤ 2147483647) (hex : p = 0 ∨ esq t i σ.sh.cs σ.wd p.toNat < (t.length : Nat)) {r : Int} (hr : -2147483648 ≤ r ∧ r ≤ 2147483647) (hb : ¬ (r = 0 ∨ r = 1)) {k : Int}  : zMet l yX1_rowChar (ws_ yX1_rowChar cX1_rowChar 6 (some .int)) ({ frames := 14, cells := (pmC (t.length + 2) t.length σ.sh.cs.length + 1), slots := (pmS (t.length + 2) t.length σ.sh.cs.length + 6), locals := 317 }) Γ h [.ref c, .int (iI i), .int (iI p), .int (iI r), .int (iI k)] (zth "java/lang/IndexOutOfBoundsException" fun _ h' => zkeep h h' []) (pmC (t.length + 2) t.length σ.sh.cs.length + 1) (pmS (t.length + 2) t.length σ.sh.cs.length + 6) := by
  refine zMet.of (cc := cX1_rowChar) hl (plainFor_of_name (by decide +kernel)) (Nat.le_of_ble_eq_true rfl) ?_
  intro X hXl hXΓ hXp C hnm hnL
  have C : zC X cX1_rowChar RX1 (some .int) 14 317 [] := C
  have hnL : X.2.1.2.2.2.2 = 6 := hnL
  subst hXl hXΓ
  show Z X h (pmC (t.length + 2) t.length σ.sh.cs.length + 1) (pmS (t.length + 2) t.length σ.sh.cs.length + 6) [(0, .ref c), (1, .int (iI i)), (2, .int (iI p)), (3, .int (iI r)), (4, .int (iI k))] 0 []
  obtain ⟨⟨tf, hc0, htx, hch⟩, hdq, ⟨lq, kq, lys, ys, hsx, hfl, hls, hl0, hyc, hkx⟩, hhi, hnd, hR⟩ := id hW
  obtain ⟨rsi, rff, rwd, rtl, rtx, rsh, rhi, rhl⟩ := id hR
  obtain ⟨rcl, rcr, rll, rlt, rkt, rkm, rks⟩ := rsh
  have hll := hls.len
  have hyl := hyc.len
  obtain ⟨lm, le0, ln0, lf, hlq, hle, hln, hlN, hlx⟩ := id hfl
  have hxw := hl0
  obtain ⟨mw, fw, law, lew, lzw, ltw, lnw, lcw, lxw, lqw⟩ := hxw
  have hcl := hyc.cl lxw
  refine z_aload_n (pc := 0) (j := 0) C dX1_rowChar_0 rfl rfl ?_
  refine z_iload_n (pc := 1) (j := 1) C dX1_rowChar_1 rfl rfl ?_
  refine z_iload_n (pc := 2) (j := 2) C dX1_rowChar_2 rfl rfl ?_
  refine z_iload_n (pc := 3) (j := 3) C dX1_rowChar_3 rfl rfl ?_
  refine z_callV (pc := 4) (n := 3) (kc' := ((pmC (t.length + 2) t.length σ.sh.cs.length + 1) - (pmC (t.length + 2) t.length σ.sh.cs.length + 1))) (ks' := ((pmS (t.length + 2) t.length σ.sh.cs.length + 6) - (pmS (t.length + 2) t.length σ.sh.cs.length + 6))) C (op_row_b4 C.t hW (i := i) (by omega) ht (p := p) (by omega) hex (r := r) (by omega) (by omega)) (lw_V q2024 q2026 qs24 q63 q2027) (by decide +kernel) ⟨by decide, by decide⟩ hc0 rfl rfl rfl (Nat.le_of_ble_eq_true rfl) dX1_rowChar_4 (by omega) (by omega) zthk (zthx fun q2 h1 hp => ?_)
  exact zx_out C (fun x hx => nomatch hx) (by rw [hXp]; exact ⟨_, rfl, hp⟩)

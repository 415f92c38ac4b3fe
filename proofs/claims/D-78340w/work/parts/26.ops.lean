/-! 26.ops.lean.txt -/
set_option maxRecDepth 100000
abbrev cX1_keep : ByteArray := prog_1_method_14_code
def yX1_keep : MethodName := ⟨RX1, "keep", "()V"⟩
def dkwX1_keep_1 : List UInt8 := [42, 180, 0, 31, 182, 0, 128, 182, 0, 132, 177]
abbrev dktX1_keep_1 : List UInt8 := dkwX1_keep_1 ++ []
def dkwX1_keep_0 : List UInt8 := [42, 180, 0, 40, 182, 0, 121, 16, 8, 160, 0, 11, 42, 180, 0, 40, 182, 0, 124, 87, 42, 180, 0, 40]
abbrev dktX1_keep_0 : List UInt8 := dkwX1_keep_0 ++ dktX1_keep_1
theorem dksX1_keep_0 : cX1_keep.data.toList.drop 0 = dktX1_keep_0 := by decide +kernel
theorem dksX1_keep_1 : cX1_keep.data.toList.drop 24 = dktX1_keep_1 := dk_seg dksX1_keep_0 24 rfl rfl
abbrev cX1_keyOf : ByteArray := prog_1_method_43_code
def yX1_keyOf : MethodName := ⟨RX1, "keyOf", "(IZ)LChordSheet$Key;"⟩
def dkwX1_keyOf_1 : List UInt8 := [44, 182, 1, 8, 184, 0, 140, 44, 176]
abbrev dktX1_keyOf_1 : List UInt8 := dkwX1_keyOf_1 ++ []
def dkwX1_keyOf_0 : List UInt8 := [26, 133, 20, 1, 4, 20, 1, 6, 184, 0, 56, 184, 0, 140, 187, 0, 23, 89, 26, 27, 183, 0, 25, 77]
abbrev dktX1_keyOf_0 : List UInt8 := dkwX1_keyOf_0 ++ dktX1_keyOf_1
theorem dksX1_keyOf_0 : cX1_keyOf.data.toList.drop 0 = dktX1_keyOf_0 := by decide +kernel
theorem dksX1_keyOf_1 : cX1_keyOf.data.toList.drop 24 = dktX1_keyOf_1 := dk_seg dksX1_keyOf_0 24 rfl rfl
abbrev cX1_setKey : ByteArray := prog_1_method_44_code
def yX1_setKey : MethodName := ⟨RX1, "setKey", "(IZ)I"⟩
def dkwX1_setKey_1 : List UInt8 := [180, 0, 31, 45, 181, 0, 241, 21, 4, 172]
abbrev dktX1_setKey_1 : List UInt8 := dkwX1_setKey_1 ++ []
def dkwX1_setKey_0 : List UInt8 := [27, 28, 184, 1, 12, 78, 42, 182, 0, 162, 42, 180, 0, 31, 180, 0, 241, 182, 1, 1, 54, 4, 42]
abbrev dktX1_setKey_0 : List UInt8 := dkwX1_setKey_0 ++ dktX1_setKey_1
theorem dksX1_setKey_0 : cX1_setKey.data.toList.drop 0 = dktX1_setKey_0 := by decide +kernel
theorem dksX1_setKey_1 : cX1_setKey.data.toList.drop 23 = dktX1_setKey_1 := dk_seg dksX1_setKey_0 23 rfl rfl
abbrev cX1_score : ByteArray := prog_1_method_45_code
def yX1_score : MethodName := ⟨RX1, "score", "(IZ)I"⟩
def dkwX1_score_0 : List UInt8 := [42, 180, 0, 31, 27, 28, 184, 1, 12, 182, 1, 16, 172]
abbrev dktX1_score_0 : List UInt8 := dkwX1_score_0 ++ []
theorem dksX1_score_0 : cX1_score.data.toList.drop 0 = dktX1_score_0 := by decide +kernel
abbrev cX1_findKey : ByteArray := prog_1_method_46_code
def yX1_findKey : MethodName := ⟨RX1, "findKey", "()I"⟩
def dkwX1_findKey_1 : List UInt8 := [3, 96, 172]
abbrev dktX1_findKey_1 : List UInt8 := dkwX1_findKey_1 ++ []
def dkwX1_findKey_0 : List UInt8 := [42, 180, 0, 31, 182, 1, 20, 76, 43, 180, 0, 251, 43, 180, 0, 254, 153, 0, 8, 16, 100, 167, 0, 4]
abbrev dktX1_findKey_0 : List UInt8 := dkwX1_findKey_0 ++ dktX1_findKey_1
theorem dksX1_findKey_0 : cX1_findKey.data.toList.drop 0 = dktX1_findKey_0 := by decide +kernel
theorem dksX1_findKey_1 : cX1_findKey.data.toList.drop 24 = dktX1_findKey_1 := dk_seg dksX1_findKey_0 24 rfl rfl
abbrev cX1_removeChord : ByteArray := prog_1_method_36_code
def yX1_removeChord : MethodName := ⟨RX1, "removeChord", "(I)I"⟩
def dkwX1_removeChord_1 : List UInt8 := [180, 0, 165, 27, 182, 0, 227, 87, 42, 180, 0, 31, 180, 0, 165, 182, 0, 168, 172]
abbrev dktX1_removeChord_1 : List UInt8 := dkwX1_removeChord_1 ++ []
def dkwX1_removeChord_0 : List UInt8 := [27, 42, 180, 0, 31, 180, 0, 165, 182, 0, 168, 184, 0, 176, 42, 182, 0, 162, 42, 180, 0, 31]
abbrev dktX1_removeChord_0 : List UInt8 := dkwX1_removeChord_0 ++ dktX1_removeChord_1
theorem dksX1_removeChord_0 : cX1_removeChord.data.toList.drop 0 = dktX1_removeChord_0 := by decide +kernel
theorem dksX1_removeChord_1 : cX1_removeChord.data.toList.drop 22 = dktX1_removeChord_1 := dk_seg dksX1_removeChord_0 22 rfl rfl
abbrev cX1_moveChord : ByteArray := prog_1_method_37_code
def yX1_moveChord : MethodName := ⟨RX1, "moveChord", "(II)I"⟩
def dkwX1_moveChord_2 : List UInt8 := [28, 182, 0, 230, 182, 0, 223, 172]
abbrev dktX1_moveChord_2 : List UInt8 := dkwX1_moveChord_2 ++ []
def dkwX1_moveChord_1 : List UInt8 := [182, 0, 162, 42, 180, 0, 31, 180, 0, 165, 27, 182, 0, 227, 87, 42, 180, 0, 31, 45, 45, 180, 0, 194]
abbrev dktX1_moveChord_1 : List UInt8 := dkwX1_moveChord_1 ++ dktX1_moveChord_2
def dkwX1_moveChord_0 : List UInt8 := [42, 27, 182, 0, 190, 78, 28, 42, 45, 180, 0, 194, 182, 0, 184, 182, 0, 77, 4, 96, 184, 0, 176, 42]
abbrev dktX1_moveChord_0 : List UInt8 := dkwX1_moveChord_0 ++ dktX1_moveChord_1
theorem dksX1_moveChord_0 : cX1_moveChord.data.toList.drop 0 = dktX1_moveChord_0 := by decide +kernel
theorem dksX1_moveChord_1 : cX1_moveChord.data.toList.drop 24 = dktX1_moveChord_1 := dk_seg dksX1_moveChord_0 24 rfl rfl
theorem dksX1_moveChord_2 : cX1_moveChord.data.toList.drop 48 = dktX1_moveChord_2 := dk_seg dksX1_moveChord_1 24 rfl rfl
abbrev cX1_undo : ByteArray := prog_1_method_61_code
def yX1_undo : MethodName := ⟨RX1, "undo", "()I"⟩
def dkwX1_undo_1 : List UInt8 := [182, 1, 100, 192, 0, 21, 181, 0, 31, 42, 180, 0, 40, 182, 0, 121, 172]
abbrev dktX1_undo_1 : List UInt8 := dkwX1_undo_1 ++ []
def dkwX1_undo_0 : List UInt8 := [42, 180, 0, 40, 182, 1, 97, 154, 0, 7, 4, 167, 0, 4, 3, 184, 0, 147, 42, 42, 180, 0, 40]
abbrev dktX1_undo_0 : List UInt8 := dkwX1_undo_0 ++ dktX1_undo_1
theorem dksX1_undo_0 : cX1_undo.data.toList.drop 0 = dktX1_undo_0 := by decide +kernel
theorem dksX1_undo_1 : cX1_undo.data.toList.drop 23 = dktX1_undo_1 := dk_seg dksX1_undo_0 23 rfl rfl
theorem dX1_keep_0 : decode cX1_keep 0 = .ok (.aload_n 0, 1) := dk_42 (dk_at dksX1_keep_0 0 rfl rfl)
theorem dX1_keep_1 : decode cX1_keep 1 = .ok (.getfield 40, 3) := dk_180 0 40 (dk_at dksX1_keep_0 1 rfl rfl)
theorem dX1_keep_4 : decode cX1_keep 4 = .ok (.invokevirtual 121, 3) := dk_182 0 121 (dk_at dksX1_keep_0 4 rfl rfl)
theorem dX1_keep_7 : decode cX1_keep 7 = .ok (.bipush 8, 2) := dk_16 8 (dk_at dksX1_keep_0 7 rfl rfl)
theorem dX1_keep_9 : decode cX1_keep 9 = .ok (.if_icmp .ne 11, 3) := dk_160 0 11 (dk_at dksX1_keep_0 9 rfl rfl)
theorem dX1_keep_12 : decode cX1_keep 12 = .ok (.aload_n 0, 1) := dk_42 (dk_at dksX1_keep_0 12 rfl rfl)
theorem dX1_keep_13 : decode cX1_keep 13 = .ok (.getfield 40, 3) := dk_180 0 40 (dk_at dksX1_keep_0 13 rfl rfl)
theorem dX1_keep_16 : decode cX1_keep 16 = .ok (.invokevirtual 124, 3) := dk_182 0 124 (dk_at dksX1_keep_0 16 rfl rfl)
theorem dX1_keep_19 : decode cX1_keep 19 = .ok (.pop, 1) := dk_87 (dk_at dksX1_keep_0 19 rfl rfl)
theorem dX1_keep_20 : decode cX1_keep 20 = .ok (.aload_n 0, 1) := dk_42 (dk_at dksX1_keep_0 20 rfl rfl)
theorem dX1_keep_21 : decode cX1_keep 21 = .ok (.getfield 40, 3) := dk_180 0 40 (dk_at dksX1_keep_0 21 rfl rfl)
theorem dX1_keep_24 : decode cX1_keep 24 = .ok (.aload_n 0, 1) := dk_42 (dk_at dksX1_keep_1 0 rfl rfl)
theorem dX1_keep_25 : decode cX1_keep 25 = .ok (.getfield 31, 3) := dk_180 0 31 (dk_at dksX1_keep_1 1 rfl rfl)
theorem dX1_keep_28 : decode cX1_keep 28 = .ok (.invokevirtual 128, 3) := dk_182 0 128 (dk_at dksX1_keep_1 4 rfl rfl)
theorem dX1_keep_31 : decode cX1_keep 31 = .ok (.invokevirtual 132, 3) := dk_182 0 132 (dk_at dksX1_keep_1 7 rfl rfl)
theorem dX1_keep_34 : decode cX1_keep 34 = .ok (.return_, 1) := dk_177 (dk_at dksX1_keep_1 10 rfl rfl)
theorem dX1_keyOf_0 : decode cX1_keyOf 0 = .ok (.iload_n 0, 1) := dk_26 (dk_at dksX1_keyOf_0 0 rfl rfl)
theorem dX1_keyOf_1 : decode cX1_keyOf 1 = .ok (.i2l, 1) := dk_133 (dk_at dksX1_keyOf_0 1 rfl rfl)
theorem dX1_keyOf_2 : decode cX1_keyOf 2 = .ok (.ldc2_w 260, 3) := dk_20 1 4 (dk_at dksX1_keyOf_0 2 rfl rfl)
theorem dX1_keyOf_5 : decode cX1_keyOf 5 = .ok (.ldc2_w 262, 3) := dk_20 1 6 (dk_at dksX1_keyOf_0 5 rfl rfl)
theorem dX1_keyOf_8 : decode cX1_keyOf 8 = .ok (.invokestatic 56, 3) := dk_184 0 56 (dk_at dksX1_keyOf_0 8 rfl rfl)
theorem dX1_keyOf_11 : decode cX1_keyOf 11 = .ok (.invokestatic 140, 3) := dk_184 0 140 (dk_at dksX1_keyOf_0 11 rfl rfl)
theorem dX1_keyOf_14 : decode cX1_keyOf 14 = .ok (.new 23, 3) := dk_187 0 23 (dk_at dksX1_keyOf_0 14 rfl rfl)
theorem dX1_keyOf_17 : decode cX1_keyOf 17 = .ok (.dup, 1) := dk_89 (dk_at dksX1_keyOf_0 17 rfl rfl)
theorem dX1_keyOf_18 : decode cX1_keyOf 18 = .ok (.iload_n 0, 1) := dk_26 (dk_at dksX1_keyOf_0 18 rfl rfl)
theorem dX1_keyOf_19 : decode cX1_keyOf 19 = .ok (.iload_n 1, 1) := dk_27 (dk_at dksX1_keyOf_0 19 rfl rfl)
theorem dX1_keyOf_20 : decode cX1_keyOf 20 = .ok (.invokespecial 25, 3) := dk_183 0 25 (dk_at dksX1_keyOf_0 20 rfl rfl)
theorem dX1_keyOf_23 : decode cX1_keyOf 23 = .ok (.astore_n 2, 1) := dk_77 (dk_at dksX1_keyOf_0 23 rfl rfl)
theorem dX1_keyOf_24 : decode cX1_keyOf 24 = .ok (.aload_n 2, 1) := dk_44 (dk_at dksX1_keyOf_1 0 rfl rfl)
theorem dX1_keyOf_25 : decode cX1_keyOf 25 = .ok (.invokevirtual 264, 3) := dk_182 1 8 (dk_at dksX1_keyOf_1 1 rfl rfl)
theorem dX1_keyOf_28 : decode cX1_keyOf 28 = .ok (.invokestatic 140, 3) := dk_184 0 140 (dk_at dksX1_keyOf_1 4 rfl rfl)
theorem dX1_keyOf_31 : decode cX1_keyOf 31 = .ok (.aload_n 2, 1) := dk_44 (dk_at dksX1_keyOf_1 7 rfl rfl)
theorem dX1_keyOf_32 : decode cX1_keyOf 32 = .ok (.areturn, 1) := dk_176 (dk_at dksX1_keyOf_1 8 rfl rfl)
theorem dX1_setKey_0 : decode cX1_setKey 0 = .ok (.iload_n 1, 1) := dk_27 (dk_at dksX1_setKey_0 0 rfl rfl)
theorem dX1_setKey_1 : decode cX1_setKey 1 = .ok (.iload_n 2, 1) := dk_28 (dk_at dksX1_setKey_0 1 rfl rfl)
theorem dX1_setKey_2 : decode cX1_setKey 2 = .ok (.invokestatic 268, 3) := dk_184 1 12 (dk_at dksX1_setKey_0 2 rfl rfl)
theorem dX1_setKey_5 : decode cX1_setKey 5 = .ok (.astore_n 3, 1) := dk_78 (dk_at dksX1_setKey_0 5 rfl rfl)
theorem dX1_setKey_6 : decode cX1_setKey 6 = .ok (.aload_n 0, 1) := dk_42 (dk_at dksX1_setKey_0 6 rfl rfl)
theorem dX1_setKey_7 : decode cX1_setKey 7 = .ok (.invokevirtual 162, 3) := dk_182 0 162 (dk_at dksX1_setKey_0 7 rfl rfl)
theorem dX1_setKey_10 : decode cX1_setKey 10 = .ok (.aload_n 0, 1) := dk_42 (dk_at dksX1_setKey_0 10 rfl rfl)
theorem dX1_setKey_11 : decode cX1_setKey 11 = .ok (.getfield 31, 3) := dk_180 0 31 (dk_at dksX1_setKey_0 11 rfl rfl)
theorem dX1_setKey_14 : decode cX1_setKey 14 = .ok (.getfield 241, 3) := dk_180 0 241 (dk_at dksX1_setKey_0 14 rfl rfl)
theorem dX1_setKey_17 : decode cX1_setKey 17 = .ok (.invokevirtual 257, 3) := dk_182 1 1 (dk_at dksX1_setKey_0 17 rfl rfl)
theorem dX1_setKey_20 : decode cX1_setKey 20 = .ok (.istore 4, 2) := dk_54 4 (dk_at dksX1_setKey_0 20 rfl rfl)
theorem dX1_setKey_22 : decode cX1_setKey 22 = .ok (.aload_n 0, 1) := dk_42 (dk_at dksX1_setKey_0 22 rfl rfl)
theorem dX1_setKey_23 : decode cX1_setKey 23 = .ok (.getfield 31, 3) := dk_180 0 31 (dk_at dksX1_setKey_1 0 rfl rfl)
theorem dX1_setKey_26 : decode cX1_setKey 26 = .ok (.aload_n 3, 1) := dk_45 (dk_at dksX1_setKey_1 3 rfl rfl)
theorem dX1_setKey_27 : decode cX1_setKey 27 = .ok (.putfield 241, 3) := dk_181 0 241 (dk_at dksX1_setKey_1 4 rfl rfl)
theorem dX1_setKey_30 : decode cX1_setKey 30 = .ok (.iload 4, 2) := dk_21 4 (dk_at dksX1_setKey_1 7 rfl rfl)
theorem dX1_setKey_32 : decode cX1_setKey 32 = .ok (.ireturn, 1) := dk_172 (dk_at dksX1_setKey_1 9 rfl rfl)
theorem dX1_score_0 : decode cX1_score 0 = .ok (.aload_n 0, 1) := dk_42 (dk_at dksX1_score_0 0 rfl rfl)
theorem dX1_score_1 : decode cX1_score 1 = .ok (.getfield 31, 3) := dk_180 0 31 (dk_at dksX1_score_0 1 rfl rfl)
theorem dX1_score_4 : decode cX1_score 4 = .ok (.iload_n 1, 1) := dk_27 (dk_at dksX1_score_0 4 rfl rfl)
theorem dX1_score_5 : decode cX1_score 5 = .ok (.iload_n 2, 1) := dk_28 (dk_at dksX1_score_0 5 rfl rfl)
theorem dX1_score_6 : decode cX1_score 6 = .ok (.invokestatic 268, 3) := dk_184 1 12 (dk_at dksX1_score_0 6 rfl rfl)
theorem dX1_score_9 : decode cX1_score 9 = .ok (.invokevirtual 272, 3) := dk_182 1 16 (dk_at dksX1_score_0 9 rfl rfl)
theorem dX1_score_12 : decode cX1_score 12 = .ok (.ireturn, 1) := dk_172 (dk_at dksX1_score_0 12 rfl rfl)
theorem dX1_findKey_0 : decode cX1_findKey 0 = .ok (.aload_n 0, 1) := dk_42 (dk_at dksX1_findKey_0 0 rfl rfl)
theorem dX1_findKey_1 : decode cX1_findKey 1 = .ok (.getfield 31, 3) := dk_180 0 31 (dk_at dksX1_findKey_0 1 rfl rfl)
theorem dX1_findKey_4 : decode cX1_findKey 4 = .ok (.invokevirtual 276, 3) := dk_182 1 20 (dk_at dksX1_findKey_0 4 rfl rfl)
theorem dX1_findKey_7 : decode cX1_findKey 7 = .ok (.astore_n 1, 1) := dk_76 (dk_at dksX1_findKey_0 7 rfl rfl)
theorem dX1_findKey_8 : decode cX1_findKey 8 = .ok (.aload_n 1, 1) := dk_43 (dk_at dksX1_findKey_0 8 rfl rfl)
theorem dX1_findKey_9 : decode cX1_findKey 9 = .ok (.getfield 251, 3) := dk_180 0 251 (dk_at dksX1_findKey_0 9 rfl rfl)
theorem dX1_findKey_12 : decode cX1_findKey 12 = .ok (.aload_n 1, 1) := dk_43 (dk_at dksX1_findKey_0 12 rfl rfl)
theorem dX1_findKey_13 : decode cX1_findKey 13 = .ok (.getfield 254, 3) := dk_180 0 254 (dk_at dksX1_findKey_0 13 rfl rfl)
theorem dX1_findKey_16 : decode cX1_findKey 16 = .ok (.ifCond .eq 8, 3) := dk_153 0 8 (dk_at dksX1_findKey_0 16 rfl rfl)
theorem dX1_findKey_19 : decode cX1_findKey 19 = .ok (.bipush 100, 2) := dk_16 100 (dk_at dksX1_findKey_0 19 rfl rfl)
theorem dX1_findKey_21 : decode cX1_findKey 21 = .ok (.goto 4, 3) := dk_167 0 4 (dk_at dksX1_findKey_0 21 rfl rfl)
theorem dX1_findKey_24 : decode cX1_findKey 24 = .ok (.iconst 0, 1) := dk_3 (dk_at dksX1_findKey_1 0 rfl rfl)
theorem dX1_findKey_25 : decode cX1_findKey 25 = .ok (.iadd, 1) := dk_96 (dk_at dksX1_findKey_1 1 rfl rfl)
theorem dX1_findKey_26 : decode cX1_findKey 26 = .ok (.ireturn, 1) := dk_172 (dk_at dksX1_findKey_1 2 rfl rfl)
theorem dX1_removeChord_0 : decode cX1_removeChord 0 = .ok (.iload_n 1, 1) := dk_27 (dk_at dksX1_removeChord_0 0 rfl rfl)
theorem dX1_removeChord_1 : decode cX1_removeChord 1 = .ok (.aload_n 0, 1) := dk_42 (dk_at dksX1_removeChord_0 1 rfl rfl)
theorem dX1_removeChord_2 : decode cX1_removeChord 2 = .ok (.getfield 31, 3) := dk_180 0 31 (dk_at dksX1_removeChord_0 2 rfl rfl)
theorem dX1_removeChord_5 : decode cX1_removeChord 5 = .ok (.getfield 165, 3) := dk_180 0 165 (dk_at dksX1_removeChord_0 5 rfl rfl)
theorem dX1_removeChord_8 : decode cX1_removeChord 8 = .ok (.invokevirtual 168, 3) := dk_182 0 168 (dk_at dksX1_removeChord_0 8 rfl rfl)
theorem dX1_removeChord_11 : decode cX1_removeChord 11 = .ok (.invokestatic 176, 3) := dk_184 0 176 (dk_at dksX1_removeChord_0 11 rfl rfl)
theorem dX1_removeChord_14 : decode cX1_removeChord 14 = .ok (.aload_n 0, 1) := dk_42 (dk_at dksX1_removeChord_0 14 rfl rfl)
theorem dX1_removeChord_15 : decode cX1_removeChord 15 = .ok (.invokevirtual 162, 3) := dk_182 0 162 (dk_at dksX1_removeChord_0 15 rfl rfl)
theorem dX1_removeChord_18 : decode cX1_removeChord 18 = .ok (.aload_n 0, 1) := dk_42 (dk_at dksX1_removeChord_0 18 rfl rfl)
theorem dX1_removeChord_19 : decode cX1_removeChord 19 = .ok (.getfield 31, 3) := dk_180 0 31 (dk_at dksX1_removeChord_0 19 rfl rfl)
theorem dX1_removeChord_22 : decode cX1_removeChord 22 = .ok (.getfield 165, 3) := dk_180 0 165 (dk_at dksX1_removeChord_1 0 rfl rfl)
theorem dX1_removeChord_25 : decode cX1_removeChord 25 = .ok (.iload_n 1, 1) := dk_27 (dk_at dksX1_removeChord_1 3 rfl rfl)
theorem dX1_removeChord_26 : decode cX1_removeChord 26 = .ok (.invokevirtual 227, 3) := dk_182 0 227 (dk_at dksX1_removeChord_1 4 rfl rfl)
theorem dX1_removeChord_29 : decode cX1_removeChord 29 = .ok (.pop, 1) := dk_87 (dk_at dksX1_removeChord_1 7 rfl rfl)
theorem dX1_removeChord_30 : decode cX1_removeChord 30 = .ok (.aload_n 0, 1) := dk_42 (dk_at dksX1_removeChord_1 8 rfl rfl)
theorem dX1_removeChord_31 : decode cX1_removeChord 31 = .ok (.getfield 31, 3) := dk_180 0 31 (dk_at dksX1_removeChord_1 9 rfl rfl)
theorem dX1_removeChord_34 : decode cX1_removeChord 34 = .ok (.getfield 165, 3) := dk_180 0 165 (dk_at dksX1_removeChord_1 12 rfl rfl)
theorem dX1_removeChord_37 : decode cX1_removeChord 37 = .ok (.invokevirtual 168, 3) := dk_182 0 168 (dk_at dksX1_removeChord_1 15 rfl rfl)
theorem dX1_removeChord_40 : decode cX1_removeChord 40 = .ok (.ireturn, 1) := dk_172 (dk_at dksX1_removeChord_1 18 rfl rfl)
theorem dX1_moveChord_0 : decode cX1_moveChord 0 = .ok (.aload_n 0, 1) := dk_42 (dk_at dksX1_moveChord_0 0 rfl rfl)
theorem dX1_moveChord_1 : decode cX1_moveChord 1 = .ok (.iload_n 1, 1) := dk_27 (dk_at dksX1_moveChord_0 1 rfl rfl)
theorem dX1_moveChord_2 : decode cX1_moveChord 2 = .ok (.invokevirtual 190, 3) := dk_182 0 190 (dk_at dksX1_moveChord_0 2 rfl rfl)
theorem dX1_moveChord_5 : decode cX1_moveChord 5 = .ok (.astore_n 3, 1) := dk_78 (dk_at dksX1_moveChord_0 5 rfl rfl)
theorem dX1_moveChord_6 : decode cX1_moveChord 6 = .ok (.iload_n 2, 1) := dk_28 (dk_at dksX1_moveChord_0 6 rfl rfl)
theorem dX1_moveChord_7 : decode cX1_moveChord 7 = .ok (.aload_n 0, 1) := dk_42 (dk_at dksX1_moveChord_0 7 rfl rfl)
theorem dX1_moveChord_8 : decode cX1_moveChord 8 = .ok (.aload_n 3, 1) := dk_45 (dk_at dksX1_moveChord_0 8 rfl rfl)
theorem dX1_moveChord_9 : decode cX1_moveChord 9 = .ok (.getfield 194, 3) := dk_180 0 194 (dk_at dksX1_moveChord_0 9 rfl rfl)
theorem dX1_moveChord_12 : decode cX1_moveChord 12 = .ok (.invokevirtual 184, 3) := dk_182 0 184 (dk_at dksX1_moveChord_0 12 rfl rfl)
theorem dX1_moveChord_15 : decode cX1_moveChord 15 = .ok (.invokevirtual 77, 3) := dk_182 0 77 (dk_at dksX1_moveChord_0 15 rfl rfl)
theorem dX1_moveChord_18 : decode cX1_moveChord 18 = .ok (.iconst 1, 1) := dk_4 (dk_at dksX1_moveChord_0 18 rfl rfl)
theorem dX1_moveChord_19 : decode cX1_moveChord 19 = .ok (.iadd, 1) := dk_96 (dk_at dksX1_moveChord_0 19 rfl rfl)
theorem dX1_moveChord_20 : decode cX1_moveChord 20 = .ok (.invokestatic 176, 3) := dk_184 0 176 (dk_at dksX1_moveChord_0 20 rfl rfl)
theorem dX1_moveChord_23 : decode cX1_moveChord 23 = .ok (.aload_n 0, 1) := dk_42 (dk_at dksX1_moveChord_0 23 rfl rfl)
theorem dX1_moveChord_24 : decode cX1_moveChord 24 = .ok (.invokevirtual 162, 3) := dk_182 0 162 (dk_at dksX1_moveChord_1 0 rfl rfl)
theorem dX1_moveChord_27 : decode cX1_moveChord 27 = .ok (.aload_n 0, 1) := dk_42 (dk_at dksX1_moveChord_1 3 rfl rfl)
theorem dX1_moveChord_28 : decode cX1_moveChord 28 = .ok (.getfield 31, 3) := dk_180 0 31 (dk_at dksX1_moveChord_1 4 rfl rfl)
theorem dX1_moveChord_31 : decode cX1_moveChord 31 = .ok (.getfield 165, 3) := dk_180 0 165 (dk_at dksX1_moveChord_1 7 rfl rfl)
theorem dX1_moveChord_34 : decode cX1_moveChord 34 = .ok (.iload_n 1, 1) := dk_27 (dk_at dksX1_moveChord_1 10 rfl rfl)
theorem dX1_moveChord_35 : decode cX1_moveChord 35 = .ok (.invokevirtual 227, 3) := dk_182 0 227 (dk_at dksX1_moveChord_1 11 rfl rfl)
theorem dX1_moveChord_38 : decode cX1_moveChord 38 = .ok (.pop, 1) := dk_87 (dk_at dksX1_moveChord_1 14 rfl rfl)
theorem dX1_moveChord_39 : decode cX1_moveChord 39 = .ok (.aload_n 0, 1) := dk_42 (dk_at dksX1_moveChord_1 15 rfl rfl)
theorem dX1_moveChord_40 : decode cX1_moveChord 40 = .ok (.getfield 31, 3) := dk_180 0 31 (dk_at dksX1_moveChord_1 16 rfl rfl)
theorem dX1_moveChord_43 : decode cX1_moveChord 43 = .ok (.aload_n 3, 1) := dk_45 (dk_at dksX1_moveChord_1 19 rfl rfl)
theorem dX1_moveChord_44 : decode cX1_moveChord 44 = .ok (.aload_n 3, 1) := dk_45 (dk_at dksX1_moveChord_1 20 rfl rfl)
theorem dX1_moveChord_45 : decode cX1_moveChord 45 = .ok (.getfield 194, 3) := dk_180 0 194 (dk_at dksX1_moveChord_1 21 rfl rfl)
theorem dX1_moveChord_48 : decode cX1_moveChord 48 = .ok (.iload_n 2, 1) := dk_28 (dk_at dksX1_moveChord_2 0 rfl rfl)
theorem dX1_moveChord_49 : decode cX1_moveChord 49 = .ok (.invokevirtual 230, 3) := dk_182 0 230 (dk_at dksX1_moveChord_2 1 rfl rfl)
theorem dX1_moveChord_52 : decode cX1_moveChord 52 = .ok (.invokevirtual 223, 3) := dk_182 0 223 (dk_at dksX1_moveChord_2 4 rfl rfl)
theorem dX1_moveChord_55 : decode cX1_moveChord 55 = .ok (.ireturn, 1) := dk_172 (dk_at dksX1_moveChord_2 7 rfl rfl)
theorem dX1_undo_0 : decode cX1_undo 0 = .ok (.aload_n 0, 1) := dk_42 (dk_at dksX1_undo_0 0 rfl rfl)
theorem dX1_undo_1 : decode cX1_undo 1 = .ok (.getfield 40, 3) := dk_180 0 40 (dk_at dksX1_undo_0 1 rfl rfl)
theorem dX1_undo_4 : decode cX1_undo 4 = .ok (.invokevirtual 353, 3) := dk_182 1 97 (dk_at dksX1_undo_0 4 rfl rfl)
theorem dX1_undo_7 : decode cX1_undo 7 = .ok (.ifCond .ne 7, 3) := dk_154 0 7 (dk_at dksX1_undo_0 7 rfl rfl)
theorem dX1_undo_10 : decode cX1_undo 10 = .ok (.iconst 1, 1) := dk_4 (dk_at dksX1_undo_0 10 rfl rfl)
theorem dX1_undo_11 : decode cX1_undo 11 = .ok (.goto 4, 3) := dk_167 0 4 (dk_at dksX1_undo_0 11 rfl rfl)
theorem dX1_undo_14 : decode cX1_undo 14 = .ok (.iconst 0, 1) := dk_3 (dk_at dksX1_undo_0 14 rfl rfl)
theorem dX1_undo_15 : decode cX1_undo 15 = .ok (.invokestatic 147, 3) := dk_184 0 147 (dk_at dksX1_undo_0 15 rfl rfl)
theorem dX1_undo_18 : decode cX1_undo 18 = .ok (.aload_n 0, 1) := dk_42 (dk_at dksX1_undo_0 18 rfl rfl)
theorem dX1_undo_19 : decode cX1_undo 19 = .ok (.aload_n 0, 1) := dk_42 (dk_at dksX1_undo_0 19 rfl rfl)
theorem dX1_undo_20 : decode cX1_undo 20 = .ok (.getfield 40, 3) := dk_180 0 40 (dk_at dksX1_undo_0 20 rfl rfl)
theorem dX1_undo_23 : decode cX1_undo 23 = .ok (.invokevirtual 356, 3) := dk_182 1 100 (dk_at dksX1_undo_1 0 rfl rfl)
theorem dX1_undo_26 : decode cX1_undo 26 = .ok (.checkcast 21, 3) := dk_192 0 21 (dk_at dksX1_undo_1 3 rfl rfl)
theorem dX1_undo_29 : decode cX1_undo 29 = .ok (.putfield 31, 3) := dk_181 0 31 (dk_at dksX1_undo_1 6 rfl rfl)
theorem dX1_undo_32 : decode cX1_undo 32 = .ok (.aload_n 0, 1) := dk_42 (dk_at dksX1_undo_1 9 rfl rfl)
theorem dX1_undo_33 : decode cX1_undo 33 = .ok (.getfield 40, 3) := dk_180 0 40 (dk_at dksX1_undo_1 10 rfl rfl)
theorem dX1_undo_36 : decode cX1_undo 36 = .ok (.invokevirtual 121, 3) := dk_182 0 121 (dk_at dksX1_undo_1 13 rfl rfl)
theorem dX1_undo_39 : decode cX1_undo 39 = .ok (.ireturn, 1) := dk_172 (dk_at dksX1_undo_1 16 rfl rfl)
theorem q1029 : (Jvm.Cond.methodLink "ChordSheet" (276 : Nat) ({ cls := "ChordSheet$Sheet", name := "likeliest", desc := "()LChordSheet$Key;" } : Jvm.MethodName)) ∈ lw_all := lw_g (lw_at lw_m5 7 rfl) rfl
theorem q115 : (Jvm.Cond.classLink "ChordSheet" (21 : Nat) "ChordSheet$Sheet") ∈ lw_all := lw_g (lw_at lw_m1 53 rfl) rfl
theorem q117 : (Jvm.Cond.classLink "ChordSheet" (23 : Nat) "ChordSheet$Key") ∈ lw_all := lw_g (lw_at lw_m1 55 rfl) rfl
theorem q119 : (Jvm.Cond.methodLink "ChordSheet" (25 : Nat) ({ cls := "ChordSheet$Key", name := "<init>", desc := "(IZ)V" } : Jvm.MethodName)) ∈ lw_all := lw_g (lw_at lw_m1 57 rfl) rfl
theorem q1803 : (Jvm.Cond.methodLink "ChordSheet" (223 : Nat) ({ cls := "ChordSheet$Sheet", name := "insert", desc := "(LChordSheet$Chord;)I" } : Jvm.MethodName)) ∈ lw_all := lw_g (lw_at lw_m8 61 rfl) rfl
theorem q1804 : (Jvm.Cond.instanceMethod ({ cls := "ChordSheet$Sheet", name := "insert", desc := "(LChordSheet$Chord;)I" } : Jvm.MethodName)) ∈ lw_all := lw_g (lw_at lw_m8 62 rfl) rfl
theorem q1805 : (Jvm.Cond.selects "ChordSheet$Sheet" ({ cls := "ChordSheet$Sheet", name := "insert", desc := "(LChordSheet$Chord;)I" } : Jvm.MethodName) ({ cls := "ChordSheet$Sheet", name := "insert", desc := "(LChordSheet$Chord;)I" } : Jvm.MethodName)) ∈ lw_all := lw_g (lw_at lw_m8 63 rfl) rfl
theorem q1806 : (Jvm.Cond.code ({ cls := "ChordSheet$Sheet", name := "insert", desc := "(LChordSheet$Chord;)I" } : Jvm.MethodName) prog_7_method_3_code (3 : Nat) (Option.some Jvm.ClassFile.FieldType.int)) ∈ lw_all := lw_g (lw_at lw_m8 64 rfl) rfl
theorem q1839 : (Jvm.Cond.methodLink "ChordSheet" (227 : Nat) ({ cls := "java/util/ArrayList", name := "remove", desc := "(I)Ljava/lang/Object;" } : Jvm.MethodName)) ∈ lw_all := lw_g (lw_at lw_m8 97 rfl) rfl
theorem q1840 : (Jvm.Cond.instanceMethod ({ cls := "java/util/ArrayList", name := "remove", desc := "(I)Ljava/lang/Object;" } : Jvm.MethodName)) ∈ lw_all := lw_g (lw_at lw_m8 98 rfl) rfl
theorem q1841 : (Jvm.Cond.selects "java/util/ArrayList" ({ cls := "java/util/ArrayList", name := "remove", desc := "(I)Ljava/lang/Object;" } : Jvm.MethodName) ({ cls := "java/util/ArrayList", name := "remove", desc := "(I)Ljava/lang/Object;" } : Jvm.MethodName)) ∈ lw_all := lw_g (lw_at lw_m8 99 rfl) rfl
theorem q1842 : (Jvm.Cond.code ({ cls := "java/util/ArrayList", name := "remove", desc := "(I)Ljava/lang/Object;" } : Jvm.MethodName) prog_44_method_29_code (4 : Nat) (Option.some (Jvm.ClassFile.FieldType.object "java/lang/Object"))) ∈ lw_all := lw_g (lw_at lw_m8 100 rfl) rfl
theorem q1854 : (Jvm.Cond.methodLink "ChordSheet" (230 : Nat) ({ cls := "ChordSheet$Chord", name := "at", desc := "(II)LChordSheet$Chord;" } : Jvm.MethodName)) ∈ lw_all := lw_g (lw_at lw_m8 112 rfl) rfl
theorem q1855 : (Jvm.Cond.instanceMethod ({ cls := "ChordSheet$Chord", name := "at", desc := "(II)LChordSheet$Chord;" } : Jvm.MethodName)) ∈ lw_all := lw_g (lw_at lw_m8 113 rfl) rfl
theorem q1856 : (Jvm.Cond.selects "ChordSheet$Chord" ({ cls := "ChordSheet$Chord", name := "at", desc := "(II)LChordSheet$Chord;" } : Jvm.MethodName) ({ cls := "ChordSheet$Chord", name := "at", desc := "(II)LChordSheet$Chord;" } : Jvm.MethodName)) ∈ lw_all := lw_g (lw_at lw_m8 114 rfl) rfl
theorem q1857 : (Jvm.Cond.code ({ cls := "ChordSheet$Chord", name := "at", desc := "(II)LChordSheet$Chord;" } : Jvm.MethodName) prog_2_method_2_code (3 : Nat) (Option.some (Jvm.ClassFile.FieldType.object "ChordSheet$Chord"))) ∈ lw_all := lw_g (lw_at lw_m8 115 rfl) rfl
theorem q1900 : (Jvm.Cond.methodLink "ChordSheet" (268 : Nat) ({ cls := "ChordSheet", name := "keyOf", desc := "(IZ)LChordSheet$Key;" } : Jvm.MethodName)) ∈ lw_all := lw_g (lw_at lw_m8 158 rfl) rfl
theorem q1901 : (Jvm.Cond.static ({ cls := "ChordSheet", name := "keyOf", desc := "(IZ)LChordSheet$Key;" } : Jvm.MethodName)) ∈ lw_all := lw_g (lw_at lw_m8 159 rfl) rfl
theorem q1902 : (Jvm.Cond.code ({ cls := "ChordSheet", name := "keyOf", desc := "(IZ)LChordSheet$Key;" } : Jvm.MethodName) prog_1_method_43_code (3 : Nat) (Option.some (Jvm.ClassFile.FieldType.object "ChordSheet$Key"))) ∈ lw_all := lw_g (lw_at lw_m8 160 rfl) rfl
theorem q1903 : (Jvm.Cond.constantLong "ChordSheet" (260 : Nat) (-6 : Int64)) ∈ lw_all := lw_g (lw_at lw_m8 161 rfl) rfl
theorem q1904 : (Jvm.Cond.constantLong "ChordSheet" (262 : Nat) (9 : Int64)) ∈ lw_all := lw_g (lw_at lw_m8 162 rfl) rfl
theorem q1905 : (Jvm.Cond.methodLink "ChordSheet" (264 : Nat) ({ cls := "ChordSheet$Key", name := "isAllowed", desc := "()Z" } : Jvm.MethodName)) ∈ lw_all := lw_g (lw_at lw_m8 163 rfl) rfl
theorem q1906 : (Jvm.Cond.instanceMethod ({ cls := "ChordSheet$Key", name := "isAllowed", desc := "()Z" } : Jvm.MethodName)) ∈ lw_all := lw_g (lw_at lw_m8 164 rfl) rfl
theorem q1907 : (Jvm.Cond.selects "ChordSheet$Key" ({ cls := "ChordSheet$Key", name := "isAllowed", desc := "()Z" } : Jvm.MethodName) ({ cls := "ChordSheet$Key", name := "isAllowed", desc := "()Z" } : Jvm.MethodName)) ∈ lw_all := lw_g (lw_at lw_m8 165 rfl) rfl
theorem q1908 : (Jvm.Cond.code ({ cls := "ChordSheet$Key", name := "isAllowed", desc := "()Z" } : Jvm.MethodName) prog_3_method_4_code (1 : Nat) (Option.some Jvm.ClassFile.FieldType.boolean)) ∈ lw_all := lw_g (lw_at lw_m8 166 rfl) rfl
theorem q1919 : (Jvm.Cond.methodLink "ChordSheet" (272 : Nat) ({ cls := "ChordSheet$Sheet", name := "score", desc := "(LChordSheet$Key;)I" } : Jvm.MethodName)) ∈ lw_all := lw_g (lw_at lw_m8 177 rfl) rfl
theorem q2061 : (Jvm.Cond.methodLink "ChordSheet" (353 : Nat) ({ cls := "java/util/ArrayDeque", name := "isEmpty", desc := "()Z" } : Jvm.MethodName)) ∈ lw_all := lw_g (lw_at lw_m9 79 rfl) rfl
theorem q2062 : (Jvm.Cond.instanceMethod ({ cls := "java/util/ArrayDeque", name := "isEmpty", desc := "()Z" } : Jvm.MethodName)) ∈ lw_all := lw_g (lw_at lw_m9 80 rfl) rfl
theorem q2063 : (Jvm.Cond.selects "java/util/ArrayDeque" ({ cls := "java/util/ArrayDeque", name := "isEmpty", desc := "()Z" } : Jvm.MethodName) ({ cls := "java/util/ArrayDeque", name := "isEmpty", desc := "()Z" } : Jvm.MethodName)) ∈ lw_all := lw_g (lw_at lw_m9 81 rfl) rfl
theorem q2064 : (Jvm.Cond.code ({ cls := "java/util/ArrayDeque", name := "isEmpty", desc := "()Z" } : Jvm.MethodName) prog_43_method_38_code (1 : Nat) (Option.some Jvm.ClassFile.FieldType.boolean)) ∈ lw_all := lw_g (lw_at lw_m9 82 rfl) rfl
theorem q2065 : (Jvm.Cond.methodLink "ChordSheet" (356 : Nat) ({ cls := "java/util/ArrayDeque", name := "removeLast", desc := "()Ljava/lang/Object;" } : Jvm.MethodName)) ∈ lw_all := lw_g (lw_at lw_m9 83 rfl) rfl
theorem q2066 : (Jvm.Cond.instanceMethod ({ cls := "java/util/ArrayDeque", name := "removeLast", desc := "()Ljava/lang/Object;" } : Jvm.MethodName)) ∈ lw_all := lw_g (lw_at lw_m9 84 rfl) rfl
theorem q2067 : (Jvm.Cond.selects "java/util/ArrayDeque" ({ cls := "java/util/ArrayDeque", name := "removeLast", desc := "()Ljava/lang/Object;" } : Jvm.MethodName) ({ cls := "java/util/ArrayDeque", name := "removeLast", desc := "()Ljava/lang/Object;" } : Jvm.MethodName)) ∈ lw_all := lw_g (lw_at lw_m9 85 rfl) rfl
theorem q2068 : (Jvm.Cond.code ({ cls := "java/util/ArrayDeque", name := "removeLast", desc := "()Ljava/lang/Object;" } : Jvm.MethodName) prog_43_method_19_code (2 : Nat) (Option.some (Jvm.ClassFile.FieldType.object "java/lang/Object"))) ∈ lw_all := lw_g (lw_at lw_m9 86 rfl) rfl
theorem q2498 : (Jvm.Cond.castable "ChordSheet$Sheet" "java/lang/Object") ∈ lw_tbl := lw_at lw_m11 36 rfl
theorem q283 : (Jvm.Cond.fieldLink "ChordSheet" (40 : Nat) "ChordSheet" "history" "Ljava/util/ArrayDeque;") ∈ lw_all := lw_g (lw_at lw_m1 221 rfl) rfl
theorem q882 : (Jvm.Cond.instanceMethod ({ cls := "ChordSheet$Sheet", name := "likeliest", desc := "()LChordSheet$Key;" } : Jvm.MethodName)) ∈ lw_all := lw_g (lw_at lw_m4 100 rfl) rfl
theorem q883 : (Jvm.Cond.selects "ChordSheet$Sheet" ({ cls := "ChordSheet$Sheet", name := "likeliest", desc := "()LChordSheet$Key;" } : Jvm.MethodName) ({ cls := "ChordSheet$Sheet", name := "likeliest", desc := "()LChordSheet$Key;" } : Jvm.MethodName)) ∈ lw_all := lw_g (lw_at lw_m4 101 rfl) rfl
theorem q884 : (Jvm.Cond.code ({ cls := "ChordSheet$Sheet", name := "likeliest", desc := "()LChordSheet$Key;" } : Jvm.MethodName) prog_7_method_6_code (5 : Nat) (Option.some (Jvm.ClassFile.FieldType.object "ChordSheet$Key"))) ∈ lw_all := lw_g (lw_at lw_m4 102 rfl) rfl
theorem q931 : (Jvm.Cond.methodLink "ChordSheet" (162 : Nat) ({ cls := "ChordSheet", name := "keep", desc := "()V" } : Jvm.MethodName)) ∈ lw_all := lw_g (lw_at lw_m4 149 rfl) rfl
theorem q933 : (Jvm.Cond.instanceMethod ({ cls := "ChordSheet", name := "keep", desc := "()V" } : Jvm.MethodName)) ∈ lw_all := lw_g (lw_at lw_m4 151 rfl) rfl
theorem q934 : (Jvm.Cond.code ({ cls := "ChordSheet", name := "keep", desc := "()V" } : Jvm.MethodName) prog_1_method_14_code (1 : Nat) (Option.none : Option Jvm.ClassFile.FieldType)) ∈ lw_all := lw_g (lw_at lw_m4 152 rfl) rfl
theorem q935 : (Jvm.Cond.methodLink "ChordSheet" (121 : Nat) ({ cls := "java/util/ArrayDeque", name := "size", desc := "()I" } : Jvm.MethodName)) ∈ lw_all := lw_g (lw_at lw_m4 153 rfl) rfl
theorem q936 : (Jvm.Cond.instanceMethod ({ cls := "java/util/ArrayDeque", name := "size", desc := "()I" } : Jvm.MethodName)) ∈ lw_all := lw_g (lw_at lw_m4 154 rfl) rfl
theorem q937 : (Jvm.Cond.selects "java/util/ArrayDeque" ({ cls := "java/util/ArrayDeque", name := "size", desc := "()I" } : Jvm.MethodName) ({ cls := "java/util/ArrayDeque", name := "size", desc := "()I" } : Jvm.MethodName)) ∈ lw_all := lw_g (lw_at lw_m4 155 rfl) rfl
theorem q938 : (Jvm.Cond.code ({ cls := "java/util/ArrayDeque", name := "size", desc := "()I" } : Jvm.MethodName) prog_43_method_37_code (1 : Nat) (Option.some Jvm.ClassFile.FieldType.int)) ∈ lw_all := lw_g (lw_at lw_m4 156 rfl) rfl
theorem q942 : (Jvm.Cond.methodLink "ChordSheet" (124 : Nat) ({ cls := "java/util/ArrayDeque", name := "removeFirst", desc := "()Ljava/lang/Object;" } : Jvm.MethodName)) ∈ lw_all := lw_g (lw_at lw_m4 160 rfl) rfl
theorem q943 : (Jvm.Cond.instanceMethod ({ cls := "java/util/ArrayDeque", name := "removeFirst", desc := "()Ljava/lang/Object;" } : Jvm.MethodName)) ∈ lw_all := lw_g (lw_at lw_m4 161 rfl) rfl
theorem q944 : (Jvm.Cond.selects "java/util/ArrayDeque" ({ cls := "java/util/ArrayDeque", name := "removeFirst", desc := "()Ljava/lang/Object;" } : Jvm.MethodName) ({ cls := "java/util/ArrayDeque", name := "removeFirst", desc := "()Ljava/lang/Object;" } : Jvm.MethodName)) ∈ lw_all := lw_g (lw_at lw_m4 162 rfl) rfl
theorem q945 : (Jvm.Cond.code ({ cls := "java/util/ArrayDeque", name := "removeFirst", desc := "()Ljava/lang/Object;" } : Jvm.MethodName) prog_43_method_18_code (2 : Nat) (Option.some (Jvm.ClassFile.FieldType.object "java/lang/Object"))) ∈ lw_all := lw_g (lw_at lw_m4 163 rfl) rfl
theorem q956 : (Jvm.Cond.methodLink "ChordSheet" (128 : Nat) ({ cls := "ChordSheet$Sheet", name := "copied", desc := "()LChordSheet$Sheet;" } : Jvm.MethodName)) ∈ lw_all := lw_g (lw_at lw_m4 174 rfl) rfl
theorem q957 : (Jvm.Cond.instanceMethod ({ cls := "ChordSheet$Sheet", name := "copied", desc := "()LChordSheet$Sheet;" } : Jvm.MethodName)) ∈ lw_all := lw_g (lw_at lw_m4 175 rfl) rfl
theorem q958 : (Jvm.Cond.selects "ChordSheet$Sheet" ({ cls := "ChordSheet$Sheet", name := "copied", desc := "()LChordSheet$Sheet;" } : Jvm.MethodName) ({ cls := "ChordSheet$Sheet", name := "copied", desc := "()LChordSheet$Sheet;" } : Jvm.MethodName)) ∈ lw_all := lw_g (lw_at lw_m4 176 rfl) rfl
theorem q959 : (Jvm.Cond.code ({ cls := "ChordSheet$Sheet", name := "copied", desc := "()LChordSheet$Sheet;" } : Jvm.MethodName) prog_7_method_2_code (3 : Nat) (Option.some (Jvm.ClassFile.FieldType.object "ChordSheet$Sheet"))) ∈ lw_all := lw_g (lw_at lw_m4 177 rfl) rfl
theorem q964 : (Jvm.Cond.methodLink "ChordSheet" (132 : Nat) ({ cls := "java/util/ArrayDeque", name := "addLast", desc := "(Ljava/lang/Object;)V" } : Jvm.MethodName)) ∈ lw_all := lw_g (lw_at lw_m4 182 rfl) rfl
theorem q965 : (Jvm.Cond.instanceMethod ({ cls := "java/util/ArrayDeque", name := "addLast", desc := "(Ljava/lang/Object;)V" } : Jvm.MethodName)) ∈ lw_all := lw_g (lw_at lw_m4 183 rfl) rfl
theorem q966 : (Jvm.Cond.selects "java/util/ArrayDeque" ({ cls := "java/util/ArrayDeque", name := "addLast", desc := "(Ljava/lang/Object;)V" } : Jvm.MethodName) ({ cls := "java/util/ArrayDeque", name := "addLast", desc := "(Ljava/lang/Object;)V" } : Jvm.MethodName)) ∈ lw_all := lw_g (lw_at lw_m4 184 rfl) rfl
theorem q967 : (Jvm.Cond.code ({ cls := "java/util/ArrayDeque", name := "addLast", desc := "(Ljava/lang/Object;)V" } : Jvm.MethodName) prog_43_method_13_code (3 : Nat) (Option.none : Option Jvm.ClassFile.FieldType)) ∈ lw_all := lw_g (lw_at lw_m4 185 rfl) rfl
theorem dAt.ex {h : zH} {a e : Nat} {xs : List Nat} (hd : dAt h a e xs) : (∃ x, h a = some x) ∧ ∃ x, h e = some x := by
  obtain ⟨i, f, g1, g2, g3, g4, g5⟩ := hd
  exact ⟨⟨_, g3⟩, _, g4⟩
theorem shW.ex {Γ : zCx} {h : zH} {x : zSA} {S : zSh} (hx : shW Γ h x S) : ∀ q ∈ fpS x, ∃ y, h q = some y := by
  obtain ⟨lq, kq, lys, ys, h1, h2, h3, ⟨m, f, h4, h5, -⟩, -⟩ := hx
  intro q hq
  unfold fpS at hq
  rcases List.mem_cons.mp hq with e | hq
  · exact ⟨_, e ▸ h1⟩
  · rcases List.mem_cons.mp hq with e | hq
    · exact ⟨_, e ▸ h4⟩
    · split at hq
      · cases hq
      · exact ⟨_, List.mem_singleton.mp hq ▸ h5⟩
theorem csW.ex {Γ : zCx} {h : zH} {c : Nat} {A : zWA} {σ : zSt} (hW : csW Γ h c A σ) : ∀ q ∈ fpW c A, ∃ y, h q = some y := by
  obtain ⟨⟨f, g1, g2, -⟩, h2, h3, ⟨ps, p1, p2, p3⟩, -, -⟩ := hW
  intro q hq
  unfold fpW at hq
  rcases List.mem_cons.mp hq with e | hq
  · exact ⟨_, e ▸ g1⟩
  rcases List.mem_cons.mp hq with e | hq
  · exact ⟨_, e ▸ g2⟩
  rcases List.mem_cons.mp hq with e | hq
  · exact e ▸ h2.ex.1
  rcases List.mem_cons.mp hq with e | hq
  · exact e ▸ h2.ex.2
  obtain ⟨x, hx, hqx⟩ := List.mem_flatMap.mp hq
  rcases List.mem_cons.mp hx with e | hx
  · exact h3.ex q (e ▸ hqx)
  · rw [p1] at hx
    obtain ⟨p, hp, rfl⟩ := List.mem_map.mp hx
    exact (p3 p hp).ex q hqx
/-- from one world to a later one -/
def wR (Γ : zCx) (h : zH) (c : Nat) (A : zWA) (h' : zH) (A' : zWA) (σ' : zSt) : Prop := csW Γ h' c A' σ' ∧ zkeep h h' (fpW c A) ∧ ∀ q ∈ fpW c A', q ∈ fpW c A ∨ h q = none
theorem wR.trans {Γ : zCx} {h h1 h2 : zH} {c : Nat} {A A1 A2 : zWA} {σ1 σ2 : zSt} (a : wR Γ h c A h1 A1 σ1) (b : wR Γ h1 c A1 h2 A2 σ2) : wR Γ h c A h2 A2 σ2 := by
  obtain ⟨a1, a2, a3⟩ := a
  obtain ⟨b1, b2, b3⟩ := b
  refine ⟨b1, zkeep.loc a2 b2 fun q hq => Or.inl (a3 q hq).symm, fun q hq => ?_⟩
  rcases b3 q hq with e | e
  · exact a3 q e
  · by_cases hS : q ∈ fpW c A
    · exact Or.inl hS
    · exact Or.inr (a2.none0 e hS)
theorem wR.keep0 {Γ : zCx} {h h1 : zH} {c : Nat} {A : zWA} {σ : zSt} (hW : csW Γ h c A σ) (k : zkeep h h1 []) : wR Γ h c A h1 A σ := ⟨hW.keep0 k, k.mono (fun _ h => nomatch h), fun _ h => Or.inl h⟩
theorem fpW.app {c : Nat} {tx dq de : Nat} {cu x : zSA} {hs : List zSA} (q : Nat) : q ∈ fpW c (tx, dq, de, cu, hs ++ [x]) ↔ q ∈ fpW c (tx, dq, de, cu, hs) ∨ q ∈ fpS x := by
  simp [fpW, zWA.tx, zWA.dq, zWA.de, zWA.cu, zWA.hs]
  grind
/-- the history is longer by a copy -/
theorem csW.kp {Γ : zCx} {h h1 : zH} {c : Nat} {A : zWA} {σ : zSt} (hW : csW Γ h c A σ) {hs2 : List zSA} {hi2 : List zSh} {x : zSA} (hsub : (A.hs = hs2 ∧ σ.hi = hi2 ∧ σ.hi.length < 8) ∨ ∃ x0 S0, A.hs = x0 :: hs2 ∧ σ.hi = S0 :: hi2) (k : zkeep h h1 [A.dq, A.de]) (hd : dAt h1 A.dq A.de (hs2.map (·.s) ++ [x.s])) (hx : shW Γ h1 x σ.sh) (hnew : ∀ q ∈ fpS x, h q = none) (hnd : (fpS x).Nodup) : wR Γ h c A h1 (A.tx, A.dq, A.de, A.cu, hs2 ++ [x]) (σ.tx, σ.si, σ.fl, σ.wd, σ.sh, hi2 ++ [σ.sh]) := by
  have hex := hW.ex
  obtain ⟨⟨f, g1, g2, g3⟩, h2, h3, ⟨ps, p1, p2, p3⟩, h5, h6⟩ := hW
  have ha := fpW.apart h5
  -- the shorter history
  obtain ⟨ps2, e1, e2, e3, e4⟩ : ∃ ps2 : List (zSA × zSh), hs2 = ps2.map (·.1) ∧ hi2 = ps2.map (·.2) ∧ (∀ p ∈ ps2, p ∈ ps) ∧ ps2.length < 8 ∧ (fpW c (A.tx, A.dq, A.de, A.cu, hs2)).Sublist (fpW c A) := by
    rcases hsub with ⟨rfl, rfl, hl⟩ | ⟨x0, S0, q1, q2⟩
    · refine ⟨ps, p1, p2, fun _ h => h, ?_, List.Sublist.refl _⟩
      rw [p2] at hl
      simpa using hl
    · cases ps with
      | nil => rw [q1] at p1; cases p1
      | cons p0 ps2 =>
        rw [q1] at p1
        rw [q2] at p2
        simp only [List.map_cons, List.cons.injEq] at p1 p2
        refine ⟨ps2, p1.2, p2.2, fun p h => List.mem_cons_of_mem _ h, ?_, ?_⟩
        · have := h6.2.2.2.2.2.2.2
          rw [q2, p2.2] at this
          simp at this
          omega
        · show List.Sublist (c :: A.tx :: A.dq :: A.de :: ((A.cu :: hs2).flatMap fpS)) (c :: A.tx :: A.dq :: A.de :: ((A.cu :: A.hs).flatMap fpS))
          rw [q1]
          simp only [List.flatMap_cons]
          refine List.Sublist.cons_cons _ (List.Sublist.cons_cons _ (List.Sublist.cons_cons _ (List.Sublist.cons_cons _ ?_)))
          exact List.Sublist.append_left (List.sublist_append_right _ _) _
  obtain ⟨e4, e5⟩ := e4
  have hkn : ∀ y ∈ A.cu :: A.hs, ∀ q ∈ fpS y, q ∉ [A.dq, A.de] := fun y hy q hq => by
    have := ha y hy q hq
    simp only [List.mem_cons, List.not_mem_nil, or_false, not_or]
    exact ⟨this.2.2.1, this.2.2.2⟩
  have hc : c ∉ [A.dq, A.de] ∧ A.tx ∉ [A.dq, A.de] := by
    have h7 := h5
    unfold fpW at h7
    simp only [List.nodup_cons, List.mem_cons, not_or] at h7
    obtain ⟨⟨-, n1, n2, -⟩, ⟨n3, n4, -⟩, -⟩ := h7
    exact ⟨by simp only [List.mem_cons, List.not_mem_nil, or_false, not_or]; exact ⟨n1, n2⟩, by simp only [List.mem_cons, List.not_mem_nil, or_false, not_or]; exact ⟨n3, n4⟩⟩
  have hfp : ∀ q ∈ fpW c (A.tx, A.dq, A.de, A.cu, hs2 ++ [x]), q ∈ fpW c A ∨ h q = none := by
    intro q hq
    rcases (fpW.app q).mp hq with e | e
    · exact Or.inl (e5.subset e)
    · exact Or.inr (hnew q e)
  refine ⟨⟨⟨f, k.n g1 hc.1, k.n g2 hc.2, g3⟩, (show dAt h1 A.dq A.de ((hs2 ++ [x]).map (·.s)) by rw [List.map_append]; exact hd), h3.keep k (hkn _ List.mem_cons_self), ⟨ps2 ++ [(x, σ.sh)], by rw [e1]; simp [zWA.hs], by rw [e2]; simp [zSt.hi], fun p hp => ?_⟩, ?_, ?_⟩, k.mono fun q hq => ?_, hfp⟩
  · rcases List.mem_append.mp hp with e | e
    · exact (p3 p (e3 p e)).keep k (hkn _ (by rw [p1]; exact List.mem_cons_of_mem _ (List.mem_map_of_mem (e3 p e))))
    · rw [List.mem_singleton.mp e]; exact hx
  · have hn2 := h5.sublist e5
    have e6 : fpW c (A.tx, A.dq, A.de, A.cu, hs2 ++ [x]) = fpW c (A.tx, A.dq, A.de, A.cu, hs2) ++ fpS x := by simp [fpW, zWA.tx, zWA.dq, zWA.de, zWA.cu, zWA.hs]
    rw [e6]
    refine List.nodup_append.mpr ⟨hn2, hnd, fun a ha b hb e => ?_⟩
    obtain ⟨y, hy⟩ := hex a (e5.subset ha)
    rw [e, hnew b hb] at hy
    cases hy
  · obtain ⟨r1, r2, r3, r4, r5, r6, r7, r8⟩ := h6
    refine ⟨r1, r2, r3, r4, r5, r6, fun S hS => ?_, by show (hi2 ++ [σ.sh]).length ≤ 8; rw [e2]; simp; omega⟩
    rcases List.mem_append.mp hS with e | e
    · refine r7 S ?_
      rw [e2] at e
      obtain ⟨p, hp, rfl⟩ := List.mem_map.mp e
      rw [p2]
      exact List.mem_map_of_mem (e3 p hp)
    · rw [List.mem_singleton.mp e]; exact r6
  · simp only [List.mem_cons, List.not_mem_nil, or_false] at hq
    rcases hq with rfl | rfl <;> simp [fpW]
theorem arrKeep {h h1 : zH} {e cap : Nat} {x : zE} {S : List Nat} (k : zkeep h h1 S) (he : h e = some (decide (cap ≠ 0), x)) (hn : cap = 0 ∨ e ∉ S) : h1 e = some (decide (cap ≠ 0), x) := by
  rcases hn with c | c
  · subst c
    exact k.f he
  · exact k.n he c
theorem fpW.ce {c : Nat} {A : zWA} (hnd : (fpW c A).Nodup) : A.cu.cap = 0 ∨ A.cu.e ∉ [A.dq, A.de] := by
  by_cases hc : A.cu.cap = 0
  · exact Or.inl hc
  · have := fpW.apart hnd A.cu List.mem_cons_self A.cu.e (by simp [fpS, hc])
    right
    simp only [List.mem_cons, List.not_mem_nil, or_false, not_or]
    exact ⟨this.2.2.1, this.2.2.2⟩
def zSt.kp (σ : zSt) : zSt := (σ.tx, σ.si, σ.fl, σ.wd, σ.sh, (if σ.hi.length = 8 then σ.hi.drop 1 else σ.hi) ++ [σ.sh])
theorem kp_full {σ : zSt} {S0 : zSh} {hi2 : List zSh} (h : σ.hi = S0 :: hi2) (h8 : σ.hi.length = 8) : ((σ.tx, σ.si, σ.fl, σ.wd, σ.sh, hi2 ++ [σ.sh]) : zSt) = σ.kp := by
  unfold zSt.kp
  rw [if_pos h8, h]
  rfl
theorem kp_not {σ : zSt} (h8 : ¬ σ.hi.length = 8) : ((σ.tx, σ.si, σ.fl, σ.wd, σ.sh, σ.hi ++ [σ.sh]) : zSt) = σ.kp := by
  unfold zSt.kp
  rw [if_neg h8]
theorem cp_shW {Γ : zCx} {h h2 hN : zH} {a d s lq cq e cap kq : Nat} {xs0 lys ys : List Nat} {S : zSh} (hdq : dAt h a d xs0) (k2 : zkeep h2 hN [a, d]) (fs : hN s = some (true, .inr (1, [.ref lq, .ref cq, .ref kq]))) (fl : flAt hN lq lys) (sl : sls hN lys S.ls) (hla : lAt Γ h2 cq e ys cap) (yc : ycs hN ys S.cs) (kk : hN kq = some (false, .inr (2, [.int (iI S.t), .int (iI S.m)]))) (ncq : h cq = none) (ne : h e = none ∨ cap = 0) : shW Γ hN (s, cq, e, cap) S := by
  obtain ⟨⟨x1, e1⟩, x2, e2⟩ := hdq.ex
  have hn : ∀ q, h q = none → q ∉ [a, d] := fun q hq => by
    simp only [List.mem_cons, List.not_mem_nil, or_false, not_or]
    exact ⟨Ne.symm (zneF e1 hq), Ne.symm (zneF e2 hq)⟩
  exact ⟨lq, kq, lys, ys, fs, fl, sl, hla.keep k2 (hn _ ncq) (ne.symm.imp_right (hn _)), yc, kk⟩
theorem fpx_new {h : zH} {s cq e cap : Nat} (n1 : h s = none) (n2 : h cq = none) (n3 : h e = none ∨ cap = 0) : ∀ q ∈ fpS (s, cq, e, cap), h q = none := by
  intro q hq
  unfold fpS at hq
  rcases List.mem_cons.mp hq with e1 | hq
  · rw [e1]; exact n1
  · rcases List.mem_cons.mp hq with e1 | hq
    · rw [e1]; exact n2
    · split at hq
      · cases hq
      · next hc =>
        rw [List.mem_singleton.mp hq]
        exact n3.resolve_right hc
theorem fpx_nd {Γ : zCx} {h : zH} {x : zSA} {S : zSh} (hx : shW Γ h x S) : (fpS x).Nodup := by
  obtain ⟨lq, kq, lys, ys, h1, h2, h3, ⟨m, f, h4, h5, -⟩, -⟩ := hx
  have a1 : x.s ≠ x.cq := zneC h1 h4 (by decide)
  have a2 : x.s ≠ x.e := zneA h1 h5
  have a3 : x.cq ≠ x.e := zneA h4 h5
  unfold fpS
  split
  · simp [a1]
  · simp [a1, a2, a3]
theorem zkeep_fp {Γ : zCx} {h h1 : zH} {x : zSA} {S : zSh} (hx : shW Γ h x S) (k : zkeep h h1 [x.s, x.cq, x.e]) : zkeep h h1 (fpS x) := by
  obtain ⟨lq, kq, lys, ys, h1, h2, h3, ⟨m, f, h4, h5, -⟩, -⟩ := hx
  intro q y e n
  refine k q y e ?_
  rcases n with n | n
  · exact Or.inl n
  · by_cases hq : q = x.e ∧ x.cap = 0
    · left
      rw [hq.1, h5] at e
      cases e
      exact decide_eq_false fun z => z hq.2
    · right
      intro hm
      apply n
      unfold fpS
      simp only [List.mem_cons, List.not_mem_nil, or_false] at hm ⊢
      rcases hm with e1 | e1 | e1
      · exact Or.inl e1
      · exact Or.inr (Or.inl e1)
      · right; right
        rw [if_neg fun z => hq ⟨e1, z⟩]
        exact List.mem_singleton.mpr e1
/-- the current sheet is another one now -/
theorem csW.upSh {Γ : zCx} {h h1 : zH} {c : Nat} {A : zWA} {σ : zSt} (hW : csW Γ h c A σ) {x : zSA} {S : zSh} (k : zkeep h h1 (fpS A.cu)) (hx : shW Γ h1 x S) (hs : x.s = A.cu.s) (hfp : ∀ q ∈ fpS x, q ∈ fpS A.cu ∨ h q = none) (hR : shR S) : wR Γ h c A h1 (A.tx, A.dq, A.de, x, A.hs) (σ.tx, σ.si, σ.fl, σ.wd, S, σ.hi) := by
  have hex := hW.ex
  obtain ⟨⟨f, g1, g2, g3⟩, h2, h3, h4, h5, h6⟩ := hW
  have e0 : fpW c A = [c, A.tx, A.dq, A.de] ++ (fpS A.cu ++ A.hs.flatMap fpS) := rfl
  have e1 : fpW c (A.tx, A.dq, A.de, x, A.hs) = [c, A.tx, A.dq, A.de] ++ (fpS x ++ A.hs.flatMap fpS) := rfl
  have h5' := h5
  rw [e0] at h5' hex
  obtain ⟨n1, n2, n3⟩ := List.nodup_append.mp h5'
  obtain ⟨m1, m2, m3⟩ := List.nodup_append.mp n2
  have hP : ∀ q ∈ [c, A.tx, A.dq, A.de], q ∉ fpS A.cu := fun q hq hz => n3 q hq q (List.mem_append_left _ hz) rfl
  have hQ : ∀ q ∈ A.hs.flatMap fpS, q ∉ fpS A.cu := fun q hq hz => m3 q hz q hq rfl
  have hxP : ∀ q ∈ fpS x, ∀ y ∈ [c, A.tx, A.dq, A.de], y ≠ q := fun q hq y hy e => by
    rcases hfp q hq with g | g
    · exact hP y hy (e ▸ g)
    · obtain ⟨z, hz⟩ := hex y (List.mem_append_left _ hy)
      rw [e, g] at hz; cases hz
  have hxQ : ∀ q ∈ fpS x, ∀ y ∈ A.hs.flatMap fpS, q ≠ y := fun q hq y hy e => by
    rcases hfp q hq with g | g
    · exact hQ y hy (e ▸ g)
    · obtain ⟨z, hz⟩ := hex y (List.mem_append_right _ (List.mem_append_right _ hy))
      rw [← e, g] at hz; cases hz
  refine ⟨⟨⟨f, ?_, k.n g2 (hP A.tx (by simp)), g3⟩, h2.keep k (hP A.dq (by simp)) (hP A.de (by simp)), hx, h4.keep k (fun y hy q hq => hQ q (List.mem_flatMap.mpr ⟨y, hy, hq⟩)), ?_, ?_⟩, k.mono fun q hq => ?_, fun q hq => ?_⟩
  · show h1 c = some (true, .inr (0, [.ref A.tx, _, _, _, _, .ref x.s, .ref A.dq]))
    rw [hs]
    exact k.n g1 (hP c (by simp))
  · rw [e1]
    refine List.nodup_append.mpr ⟨n1, List.nodup_append.mpr ⟨fpx_nd hx, m2, fun a ha b hb => hxQ a ha b hb⟩, fun a ha b hb => ?_⟩
    rcases List.mem_append.mp hb with g | g
    · exact hxP b g a ha
    · exact n3 a ha b (List.mem_append_right _ g)
  · obtain ⟨r1, r2, r3, r4, r5, r6, r7, r8⟩ := h6
    exact ⟨r1, r2, r3, r4, r5, hR, r7, r8⟩
  · rw [e0]; exact List.mem_append_right _ (List.mem_append_left _ hq)
  · rw [e1] at hq
    rw [e0]
    rcases List.mem_append.mp hq with g | g
    · exact Or.inl (List.mem_append_left _ g)
    · rcases List.mem_append.mp g with g | g
      · exact (hfp q g).imp_left fun z => List.mem_append_right _ (List.mem_append_left _ z)
      · exact Or.inl (List.mem_append_right _ (List.mem_append_right _ g))
theorem lgi_r (cs : List zCh) {md ad : Int} (hmd : md = 0 ∨ md = 1) (had : 0 ≤ ad ∧ ad ≤ 3) : ∀ (f : Nat) (k : Int) (b : Int × Int), 0 ≤ k → k + (f : Nat) ≤ 13 → (-20 ≤ b.1 ∧ b.1 ≤ 20) → (b.2 = 0 ∨ b.2 = 1) → (-20 ≤ (lgi cs md ad f k b).1 ∧ (lgi cs md ad f k b).1 ≤ 20) ∧ ((lgi cs md ad f k b).2 = 0 ∨ (lgi cs md ad f k b).2 = 1) := by
  intro f
  induction f with
  | zero => intro k b _ _ h1 h2; exact ⟨h1, h2⟩
  | succ f ih =>
    intro k b hk hf h1 h2
    simp only [lgi]
    have hs : -7 ≤ sgk k ∧ sgk k ≤ 7 := by unfold sgk; split <;> omega
    refine ih _ _ (by omega) (by omega) ?_ ?_
    · split
      · exact ⟨by omega, by omega⟩
      · exact h1
    · split
      · exact hmd
      · exact h2
theorem lik_r (cs : List zCh) : (-20 ≤ (lik cs).1 ∧ (lik cs).1 ≤ 20) ∧ ((lik cs).2 = 0 ∨ (lik cs).2 = 1) := by
  have h1 := lgi_r cs (md := 0) (ad := 0) (Or.inl rfl) (by decide) 13 0 (0, 0) (by decide) (by decide) (by decide) (Or.inl rfl)
  exact lgi_r cs (md := 1) (ad := 3) (Or.inr rfl) (by decide) 13 0 _ (by decide) (by decide) h1.1 h1.2
theorem fp_ins {Γ : zCx} {h h' : zH} {x : zSA} {S : zSh} {ys' ys : List Nat} {e1 cap' : Nat} (hx : shW Γ h x S) (hd : e1 ∈ [x.cq, x.e] ∨ h e1 = none) (hpre : lAt Γ h x.cq x.e ys x.cap) (k : zkeep h h' [x.cq, x.e]) (hpost : lAt Γ h' x.cq e1 ys' cap') : ∀ q ∈ fpS (x.s, x.cq, e1, cap'), q ∈ fpS x ∨ h q = none := by
  intro q hq
  unfold fpS at hq
  rcases List.mem_cons.mp hq with e | hq
  · left; rw [e]; simp [fpS, zSA.s]
  · rcases List.mem_cons.mp hq with e | hq
    · left; rw [e]; simp [fpS, zSA.cq]
    · split at hq
      · cases hq
      · next hc =>
        have e := List.mem_singleton.mp hq
        have hc' : cap' ≠ 0 := hc
        have e' : q = e1 := e
        subst e'
        rcases hd with g | g
        · simp only [List.mem_cons, List.not_mem_nil, or_false] at g
          rcases g with g | g
          · left; rw [g]; simp [fpS]
          · by_cases h0 : x.cap = 0
            · exfalso
              obtain ⟨m, f, -, p2, -⟩ := hpre
              obtain ⟨m', f', -, q2, -⟩ := hpost
              rw [h0] at p2
              have := k.f p2
              rw [← g, q2, decide_eq_true hc'] at this
              cases this
            · left; rw [g]; simp [fpS, h0]
        · exact Or.inr g
def zins (c : zCh) (cs : List zCh) : List zCh := cs.take (ipl c cs).toNat ++ c :: cs.drop (ipl c cs).toNat
theorem zins_l (c : zCh) (cs : List zCh) : (zins c cs).length = cs.length + 1 := by
  have := ipl_r c cs
  simp [zins]
  omega
theorem zins_m {c d : zCh} {cs : List zCh} (h : d ∈ zins c cs) : d = c ∨ d ∈ cs := by
  unfold zins at h
  rcases List.mem_append.mp h with e | e
  · exact Or.inr (List.mem_of_mem_take e)
  · rcases List.mem_cons.mp e with e | e
    · exact Or.inl e
    · exact Or.inr (List.mem_of_mem_drop e)
/-- the last state of the history is the sheet again -/
theorem csW.un {Γ : zCx} {h h1 : zH} {c : Nat} {A : zWA} {σ : zSt} (hW : csW Γ h c A σ) {hs2 : List zSA} {x0 : zSA} {hi2 : List zSh} {S0 : zSh} (q1 : A.hs = hs2 ++ [x0]) (q2 : σ.hi = hi2 ++ [S0]) (k : zkeep h h1 [c, A.dq, A.de]) (hc : h1 c = some (true, .inr (0, [.ref A.tx, .int (iI ((σ.tx.length : Nat) : Int)), .int (iI σ.si), .int (iI σ.fl), .int (iI σ.wd), .ref x0.s, .ref A.dq]))) (hd : dAt h1 A.dq A.de (hs2.map (·.s))) : wR Γ h c A h1 (A.tx, A.dq, A.de, x0, hs2) (σ.tx, σ.si, σ.fl, σ.wd, S0, hi2) := by
  obtain ⟨⟨f, g1, g2, g3⟩, h2, h3, ⟨ps, p1, p2, p3⟩, h5, h6⟩ := hW
  have ha := fpW.apart h5
  obtain ⟨ps2, e1, e2, e3, e4⟩ : ∃ ps2 : List (zSA × zSh), hs2 = ps2.map (·.1) ∧ hi2 = ps2.map (·.2) ∧ (∀ p ∈ ps2, p ∈ ps) ∧ (x0, S0) ∈ ps := by
    rcases List.eq_nil_or_concat ps with e | ⟨ps2, p0, e⟩
    · rw [e, q1] at p1; simp at p1
    · rw [e, q1] at p1
      rw [e, q2] at p2
      simp only [List.concat_eq_append, List.map_append, List.map_cons, List.map_nil] at p1 p2
      have a1 := List.append_inj_left' p1 rfl
      have a2 := List.append_inj_right' p1 rfl
      have b1 := List.append_inj_left' p2 rfl
      have b2 := List.append_inj_right' p2 rfl
      simp only [List.cons.injEq, and_true] at a2 b2
      refine ⟨ps2, a1, b1, fun p hp => by rw [e]; simp [hp], ?_⟩
      rw [e, a2, b2]
      simp
  have hkn : ∀ y ∈ A.cu :: A.hs, ∀ q ∈ fpS y, q ∉ [c, A.dq, A.de] := fun y hy q hq => by
    have := ha y hy q hq
    simp only [List.mem_cons, List.not_mem_nil, or_false, not_or]
    exact ⟨this.1, this.2.2.1, this.2.2.2⟩
  have htx : A.tx ∉ [c, A.dq, A.de] := by
    have h7 := h5
    unfold fpW at h7
    simp only [List.nodup_cons, List.mem_cons, not_or] at h7
    obtain ⟨⟨n0, n1, n2, -⟩, ⟨n3, n4, -⟩, -⟩ := h7
    simp only [List.mem_cons, List.not_mem_nil, or_false, not_or]
    exact ⟨Ne.symm n0, n3, n4⟩
  have mem : ∀ p ∈ ps, p.1 ∈ A.cu :: A.hs := fun p hp => by rw [p1]; exact List.mem_cons_of_mem _ (List.mem_map_of_mem hp)
  have e0 : fpW c A = [c, A.tx, A.dq, A.de] ++ (fpS A.cu ++ (hs2.flatMap fpS ++ fpS x0)) := by
    show [c, A.tx, A.dq, A.de] ++ (fpS A.cu ++ A.hs.flatMap fpS) = _
    rw [q1]; simp
  have e5 : fpW c (A.tx, A.dq, A.de, x0, hs2) = [c, A.tx, A.dq, A.de] ++ (fpS x0 ++ hs2.flatMap fpS) := rfl
  refine ⟨⟨⟨f, hc, k.n g2 htx, g3⟩, hd, (p3 _ e4).keep k (hkn _ (mem _ e4)), ⟨ps2, e1, e2, fun p hp => (p3 p (e3 p hp)).keep k (hkn _ (mem _ (e3 p hp)))⟩, ?_, ?_⟩, k.mono fun q hq => ?_, fun q hq => ?_⟩
  · rw [e5]
    rw [e0] at h5
    refine List.Perm.nodup (l := [c, A.tx, A.dq, A.de] ++ (hs2.flatMap fpS ++ fpS x0)) (List.Perm.append_left _ List.perm_append_comm) ?_
    exact h5.sublist (List.Sublist.append_left (List.sublist_append_right _ _) _)
  · obtain ⟨r1, r2, r3, r4, r5, r6, r7, r8⟩ := h6
    rw [q2] at r7 r8
    exact ⟨r1, r2, r3, r4, r5, r7 S0 (by simp), fun S hS => r7 S (List.mem_append_left _ hS), by simp at r8; show hi2.length ≤ 8; omega⟩
  · simp only [List.mem_cons, List.not_mem_nil, or_false] at hq
    rcases hq with rfl | rfl | rfl <;> simp [fpW]
  · left
    rw [e5] at hq
    rw [e0]
    rcases List.mem_append.mp hq with g | g
    · exact List.mem_append_left _ g
    · rcases List.mem_append.mp g with g | g
      · exact List.mem_append_right _ (List.mem_append_right _ (List.mem_append_right _ g))
      · exact List.mem_append_right _ (List.mem_append_right _ (List.mem_append_left _ g))
theorem hiW.last {Γ : zCx} {h : zH} {xs hs2 : List zSA} {x0 : zSA} {Ss : List zSh} (hh : hiW Γ h xs Ss) (q1 : xs = hs2 ++ [x0]) : ∃ lq kq, h x0.s = some (true, .inr (1, [.ref lq, .ref x0.cq, .ref kq])) := by
  obtain ⟨ps, p1, -, p3⟩ := hh
  have hm : x0 ∈ ps.map (·.1) := by rw [← p1, q1]; simp
  obtain ⟨p, hp, rfl⟩ := List.mem_map.mp hm
  obtain ⟨lq, kq, lys, ys, h1, -⟩ := p3 p hp
  exact ⟨lq, kq, h1⟩
set_option maxHeartbeats 4000000 in
theorem op_keep {l : Launch} (hl : l.stackTraces = false) {Γ : zCx} {h : zH} {c : Nat} {A : zWA} {σ : zSt} (hW : csW Γ h c A σ)  : zMet l yX1_keep (ws_ yX1_keep cX1_keep 1 none) ({ frames := 8, cells := (3 + bLC 0 σ.sh.ls.length + bLC 0 σ.sh.cs.length), slots := (9 + bLS 0 σ.sh.ls.length + bLS 0 σ.sh.cs.length), locals := 174 }) Γ h [.ref c] (zrt (fun w h' => w = none ∧ ∃ A', wR Γ h c A h' A' σ.kp ∧ A'.cu = A.cu)) (3 + bLC 0 σ.sh.ls.length + bLC 0 σ.sh.cs.length) (9 + bLS 0 σ.sh.ls.length + bLS 0 σ.sh.cs.length) := by
  refine zMet.of (cc := cX1_keep) hl (plainFor_of_name (by decide +kernel)) (Nat.le_of_ble_eq_true rfl) ?_
  intro X hXl hXΓ hXp C hnm hnL
  have C : zC X cX1_keep RX1 none 8 174 [] := C
  have hnL : X.2.1.2.2.2.2 = 1 := hnL
  subst hXl hXΓ
  show Z X h (3 + bLC 0 σ.sh.ls.length + bLC 0 σ.sh.cs.length) (9 + bLS 0 σ.sh.ls.length + bLS 0 σ.sh.cs.length) [(0, .ref c)] 0 []
  obtain ⟨⟨tf, hc0, htx, hch⟩, hdq, ⟨lq, kq, lys, ys, hsx, hfl, hls, hl0, hyc, hkx⟩, hhi, hnd, hR⟩ := id hW
  obtain ⟨rsi, rff, rwd, rtl, rtx, rsh, rhi, rhl⟩ := id hR
  obtain ⟨rcl, rcr, rll, rlt, rkt, rkm, rks⟩ := rsh
  have hll := hls.len
  have hyl := hyc.len
  obtain ⟨lm, le0, ln0, lf, hlq, hle, hln, hlN, hlx⟩ := id hfl
  have hxw := hl0
  obtain ⟨mw, fw, law, lew, lzw, ltw, lnw, lcw, lxw, lqw⟩ := hxw
  have hcl := hyc.cl lxw
  have hhl : A.hs.length = σ.hi.length := by obtain ⟨ps, p1, p2, -⟩ := hhi; rw [p1, p2]; simp
  obtain ⟨dhd, dfx, dd0, ddl, dda, dde, ddx⟩ := id hdq
  have hsz : (A.hs.map (·.s)).length = A.hs.length := by simp
  have hnE : A.cu.cap = 0 ∨ A.cu.e ∉ [A.dq, A.de] := fpW.ce hnd
  refine z_aload_n (pc := 0) (j := 0) C dX1_keep_0 rfl rfl ?_
  refine z_getfield (pc := 1) (v := .ref A.dq) C in_X1 rfl 6 (by decide) q283 (fun _ z => z) hc0 rfl dX1_keep_1 ?_
  refine z_callV (pc := 4) (n := 0) (kc' := (3 + bLC 0 σ.sh.ls.length + bLC 0 σ.sh.cs.length)) (ks' := (9 + bLS 0 σ.sh.ls.length + bLS 0 σ.sh.cs.length)) C (ct_D_size C.t hdq) (lw_V q935 q936 q937 q69 q938) (by decide +kernel) ⟨by decide, by decide⟩ dda rfl rfl rfl (Nat.le_of_ble_eq_true rfl) dX1_keep_4 (by omega) (by omega) (zpk (st' := [.int (iI (((A.hs.map (·.s)).length : Nat) : Int))]) rfl ?_) zrx
  refine z_bipush (pc := 7) C dX1_keep_7 (by decide) ?_
  refine z_icmp_ne (pc := 9) (tgt := 20) C dX1_keep_9 (by decide) (by omega) (by decide) (fun c9 => ?_) (fun c9 => ?_)
  · refine z_aload_n (pc := 20) (j := 0) C dX1_keep_20 rfl rfl ?_
    refine z_getfield (pc := 21) (v := .ref A.dq) C in_X1 rfl 6 (by decide) q283 (fun _ z => z) hc0 rfl dX1_keep_21 ?_
    refine z_aload_n (pc := 24) (j := 0) C dX1_keep_24 rfl rfl ?_
    refine z_getfield (pc := 25) (v := .ref A.cu.s) C in_X1 rfl 5 (by decide) q282 (fun _ z => z) hc0 rfl dX1_keep_25 ?_
    refine z_callV (pc := 28) (n := 0) (kc' := ((3 + bLC 0 σ.sh.ls.length + bLC 0 σ.sh.cs.length) - (3 + bLC 0 lys.length + bLC 0 ys.length))) (ks' := ((9 + bLS 0 σ.sh.ls.length + bLS 0 σ.sh.cs.length) - (9 + bLS 0 lys.length + bLS 0 ys.length))) C (ct_S_copied C.t hsx hlq hle ⟨hln, hlN⟩ hlx hls (by omega) law lew ⟨lnw, lcw⟩ lxw hyc (by omega)) (lw_V q956 q957 q958 q64 q959) (by decide +kernel) ⟨by decide, by decide⟩ hsx rfl rfl rfl (Nat.le_of_ble_eq_true rfl) dX1_keep_28 (by rw [hll, hyl]; omega) (by rw [hll, hyl]; omega) (zrk fun w h2 hp => ?_) zrx
    obtain ⟨s_1, lq_1, cq_1, e_1, cap_1, rfl, fsh_1, hfl_1, hla_1, fs_1, fcq_1, fe_1, k3⟩ := hp
    have ns_1 : h s_1 = none := fs_1
    have ncq_1 : h cq_1 = none := fcq_1
    have ne_1 : h e_1 = none ∨ cap_1 = 0 := fe_1
    have kh2 : zkeep h h2 [A.dq, A.de] := zkeep.loc zkeep.rf k3 zall_nil
    have fh2_1 : h2 A.dq = some (true, .inr (11, [.ref A.de, .int (iI ((dhd : Nat) : Int)), .int (iI (((dhd + (A.hs.map (·.s)).length) % 10 : Nat) : Int))])) := k3.n dda List.not_mem_nil
    have fh2_2 : h2 A.de = some (true, .inl ((.object "java/lang/Object"), 10, dfx)) := k3.n dde List.not_mem_nil
    have hdk_1 := dAt.keep k3 hdq List.not_mem_nil List.not_mem_nil
    show Z X h2 ((3 + bLC 0 σ.sh.ls.length + bLC 0 σ.sh.cs.length) - (3 + bLC 0 lys.length + bLC 0 ys.length)) ((9 + bLS 0 σ.sh.ls.length + bLS 0 σ.sh.cs.length) - (9 + bLS 0 lys.length + bLS 0 ys.length)) [(0, .ref c)] 31 [.ref s_1, .ref A.dq]
    refine z_callV (pc := 31) (n := 1) (kc' := ((3 + bLC 0 σ.sh.ls.length + bLC 0 σ.sh.cs.length) - (3 + bLC 0 lys.length + bLC 0 ys.length))) (ks' := ((9 + bLS 0 σ.sh.ls.length + bLS 0 σ.sh.cs.length) - (9 + bLS 0 lys.length + bLS 0 ys.length))) C (ct_D_addLast C.t hdk_1 fsh_1 rfl q2498 (by omega)) (lw_V q964 q965 q966 q69 q967) (by decide +kernel) ⟨by decide, by decide⟩ fh2_1 rfl rfl rfl (Nat.le_of_ble_eq_true rfl) dX1_keep_31 (by omega) (by omega) (zrk fun w h4 hp => ?_) zrx
    obtain ⟨rfl, hl5, k6⟩ := hp
    have kh4 : zkeep h h4 [A.dq, A.de] := zkeep.loc kh2 k6 (zall_cons (Or.inl (Or.symm (Or.inl (by simp)))) (zall_cons (Or.inl (Or.symm (Or.inl (by simp)))) zall_nil))
    have fh4_1 : h4 s_1 = some (true, .inr (1, [.ref lq_1, .ref cq_1, .ref kq])) := k6.n fsh_1 (List.not_mem_cons_of_ne_of_not_mem (zneC fsh_1 fh2_1 (by decide)) (List.not_mem_cons_of_ne_of_not_mem (zneA fsh_1 fh2_2) List.not_mem_nil))
    have ph4_1 : flAt h4 lq_1 lys := flAt.keep k6 hfl_1
    show Z X h4 ((3 + bLC 0 σ.sh.ls.length + bLC 0 σ.sh.cs.length) - (3 + bLC 0 lys.length + bLC 0 ys.length)) ((9 + bLS 0 σ.sh.ls.length + bLS 0 σ.sh.cs.length) - (9 + bLS 0 lys.length + bLS 0 ys.length)) [(0, .ref c)] 34 []
    exact z_return (pc := 34) C (by rw [hXp]; exact ⟨_, rfl, rfl, (A.tx, A.dq, A.de, A.cu, A.hs ++ [((s_1, cq_1, e_1, cap_1) : zSA)]), (by rw [← kp_not (σ := σ) (by omega)]; exact csW.kp hW (x := ((s_1, cq_1, e_1, cap_1) : zSA)) (Or.inl ⟨rfl, rfl, by omega⟩) kh4 hl5 (cp_shW hdq k6 fh4_1 ph4_1 (sls.keep kh4 hls) hla_1 (ycs.keep kh4 hyc) (kh4.f hkx) ncq_1 ne_1) (fpx_new ns_1 ncq_1 ne_1) (fpx_nd (cp_shW hdq k6 fh4_1 ph4_1 (sls.keep kh4 hls) hla_1 (ycs.keep kh4 hyc) (kh4.f hkx) ncq_1 ne_1))), rfl⟩) dX1_keep_34
  · obtain ⟨x0, hs2, hhs⟩ : ∃ x0 hs2, A.hs = x0 :: hs2 := List.exists_cons_of_length_pos (by omega)
    obtain ⟨S0, hi2, hhi2⟩ : ∃ S0 hi2, σ.hi = S0 :: hi2 := List.exists_cons_of_length_pos (by omega)
    have hl7 : (hs2.map (·.s)).length = 7 := by have := congrArg List.length hhs; simp at this; simp; omega
    have hdq2 : dAt h A.dq A.de (x0.s :: hs2.map (·.s)) := by rw [hhs] at hdq; exact hdq
    refine z_aload_n (pc := 12) (j := 0) C dX1_keep_12 rfl rfl ?_
    refine z_getfield (pc := 13) (v := .ref A.dq) C in_X1 rfl 6 (by decide) q283 (fun _ z => z) hc0 rfl dX1_keep_13 ?_
    refine z_callV (pc := 16) (n := 0) (kc' := (3 + bLC 0 σ.sh.ls.length + bLC 0 σ.sh.cs.length)) (ks' := (9 + bLS 0 σ.sh.ls.length + bLS 0 σ.sh.cs.length)) C (ct_D_removeFirst C.t hdq2) (lw_V q942 q943 q944 q69 q945) (by decide +kernel) ⟨by decide, by decide⟩ dda rfl rfl rfl (Nat.le_of_ble_eq_true rfl) dX1_keep_16 (by omega) (by omega) (zrk fun w h7 hp => ?_) zrx
    obtain ⟨rfl, hl8, k9⟩ := hp
    have kh7 : zkeep h h7 [A.dq, A.de] := zkeep.loc zkeep.rf k9 (zall_cons (Or.inl (Or.symm (Or.inl (by simp)))) (zall_cons (Or.inl (Or.symm (Or.inl (by simp)))) zall_nil))
    obtain ⟨hd_10, f_10, d0_10, dl_10, da_10, de_10, dx_10⟩ := id hl8
    show Z X h7 (3 + bLC 0 σ.sh.ls.length + bLC 0 σ.sh.cs.length) (9 + bLS 0 σ.sh.ls.length + bLS 0 σ.sh.cs.length) [(0, .ref c)] 19 [.ref x0.s]
    refine z_pop (pc := 19) C dX1_keep_19 rfl ?_
    refine z_aload_n (pc := 20) (j := 0) C dX1_keep_20 rfl rfl ?_
    refine z_getfield (pc := 21) (v := .ref A.dq) C in_X1 rfl 6 (by decide) q283 (fun _ z => z) (kh7.n hc0 (List.not_mem_cons_of_ne_of_not_mem (zneC hc0 dda (by decide)) (List.not_mem_cons_of_ne_of_not_mem (zneA hc0 dde) List.not_mem_nil))) rfl dX1_keep_21 ?_
    refine z_aload_n (pc := 24) (j := 0) C dX1_keep_24 rfl rfl ?_
    refine z_getfield (pc := 25) (v := .ref A.cu.s) C in_X1 rfl 5 (by decide) q282 (fun _ z => z) (kh7.n hc0 (List.not_mem_cons_of_ne_of_not_mem (zneC hc0 dda (by decide)) (List.not_mem_cons_of_ne_of_not_mem (zneA hc0 dde) List.not_mem_nil))) rfl dX1_keep_25 ?_
    refine z_callV (pc := 28) (n := 0) (kc' := ((3 + bLC 0 σ.sh.ls.length + bLC 0 σ.sh.cs.length) - (3 + bLC 0 lys.length + bLC 0 ys.length))) (ks' := ((9 + bLS 0 σ.sh.ls.length + bLS 0 σ.sh.cs.length) - (9 + bLS 0 lys.length + bLS 0 ys.length))) C (ct_S_copied C.t (kh7.n hsx (List.not_mem_cons_of_ne_of_not_mem (zneC hsx dda (by decide)) (List.not_mem_cons_of_ne_of_not_mem (zneA hsx dde) List.not_mem_nil))) (kh7.f hlq) (kh7.f hle) ⟨hln, hlN⟩ hlx (sls.keep kh7 hls) (by omega) (kh7.n law (List.not_mem_cons_of_ne_of_not_mem (zneC law dda (by decide)) (List.not_mem_cons_of_ne_of_not_mem (zneA law dde) List.not_mem_nil))) (arrKeep kh7 lew hnE) ⟨lnw, lcw⟩ lxw (ycs.keep kh7 hyc) (by omega)) (lw_V q956 q957 q958 q64 q959) (by decide +kernel) ⟨by decide, by decide⟩ (kh7.n hsx (List.not_mem_cons_of_ne_of_not_mem (zneC hsx dda (by decide)) (List.not_mem_cons_of_ne_of_not_mem (zneA hsx dde) List.not_mem_nil))) rfl rfl rfl (Nat.le_of_ble_eq_true rfl) dX1_keep_28 (by rw [hll, hyl]; omega) (by rw [hll, hyl]; omega) (zrk fun w h12 hp => ?_) zrx
    obtain ⟨s_11, lq_11, cq_11, e_11, cap_11, rfl, fsh_11, hfl_11, hla_11, fs_11, fcq_11, fe_11, k13⟩ := hp
    have ns_11 : h s_11 = none := kh7.none0 fs_11 (List.not_mem_cons_of_ne_of_not_mem (Ne.symm (zneF da_10 fs_11)) (List.not_mem_cons_of_ne_of_not_mem (Ne.symm (zneF de_10 fs_11)) List.not_mem_nil))
    have ncq_11 : h cq_11 = none := kh7.none0 fcq_11 (List.not_mem_cons_of_ne_of_not_mem (Ne.symm (zneF da_10 fcq_11)) (List.not_mem_cons_of_ne_of_not_mem (Ne.symm (zneF de_10 fcq_11)) List.not_mem_nil))
    have ne_11 : h e_11 = none ∨ cap_11 = 0 := fe_11.imp_left fun z => kh7.none0 z (List.not_mem_cons_of_ne_of_not_mem (Ne.symm (zneF da_10 z)) (List.not_mem_cons_of_ne_of_not_mem (Ne.symm (zneF de_10 z)) List.not_mem_nil))
    have kh12 : zkeep h h12 [A.dq, A.de] := zkeep.loc kh7 k13 zall_nil
    have fh12_1 : h12 A.dq = some (true, .inr (11, [.ref A.de, .int (iI ((hd_10 : Nat) : Int)), .int (iI (((hd_10 + (hs2.map (·.s)).length) % 10 : Nat) : Int))])) := k13.n da_10 List.not_mem_nil
    have fh12_2 : h12 A.de = some (true, .inl ((.object "java/lang/Object"), 10, f_10)) := k13.n de_10 List.not_mem_nil
    have hdk_11 := dAt.keep k13 hl8 List.not_mem_nil List.not_mem_nil
    show Z X h12 ((3 + bLC 0 σ.sh.ls.length + bLC 0 σ.sh.cs.length) - (3 + bLC 0 lys.length + bLC 0 ys.length)) ((9 + bLS 0 σ.sh.ls.length + bLS 0 σ.sh.cs.length) - (9 + bLS 0 lys.length + bLS 0 ys.length)) [(0, .ref c)] 31 [.ref s_11, .ref A.dq]
    refine z_callV (pc := 31) (n := 1) (kc' := ((3 + bLC 0 σ.sh.ls.length + bLC 0 σ.sh.cs.length) - (3 + bLC 0 lys.length + bLC 0 ys.length))) (ks' := ((9 + bLS 0 σ.sh.ls.length + bLS 0 σ.sh.cs.length) - (9 + bLS 0 lys.length + bLS 0 ys.length))) C (ct_D_addLast C.t hdk_11 fsh_11 rfl q2498 (by omega)) (lw_V q964 q965 q966 q69 q967) (by decide +kernel) ⟨by decide, by decide⟩ fh12_1 rfl rfl rfl (Nat.le_of_ble_eq_true rfl) dX1_keep_31 (by omega) (by omega) (zrk fun w h14 hp => ?_) zrx
    obtain ⟨rfl, hl15, k16⟩ := hp
    have kh14 : zkeep h h14 [A.dq, A.de] := zkeep.loc kh12 k16 (zall_cons (Or.inl (Or.symm (Or.inl (by simp)))) (zall_cons (Or.inl (Or.symm (Or.inl (by simp)))) zall_nil))
    have fh14_1 : h14 s_11 = some (true, .inr (1, [.ref lq_11, .ref cq_11, .ref kq])) := k16.n fsh_11 (List.not_mem_cons_of_ne_of_not_mem (zneC fsh_11 fh12_1 (by decide)) (List.not_mem_cons_of_ne_of_not_mem (zneA fsh_11 fh12_2) List.not_mem_nil))
    have ph14_1 : flAt h14 lq_11 lys := flAt.keep k16 hfl_11
    show Z X h14 ((3 + bLC 0 σ.sh.ls.length + bLC 0 σ.sh.cs.length) - (3 + bLC 0 lys.length + bLC 0 ys.length)) ((9 + bLS 0 σ.sh.ls.length + bLS 0 σ.sh.cs.length) - (9 + bLS 0 lys.length + bLS 0 ys.length)) [(0, .ref c)] 34 []
    exact z_return (pc := 34) C (by rw [hXp]; exact ⟨_, rfl, rfl, (A.tx, A.dq, A.de, A.cu, hs2 ++ [((s_11, cq_11, e_11, cap_11) : zSA)]), (by rw [← kp_full hhi2 (by omega)]; exact csW.kp hW (x := ((s_11, cq_11, e_11, cap_11) : zSA)) (Or.inr ⟨x0, S0, hhs, hhi2⟩) kh14 hl15 (cp_shW hdq k16 fh14_1 ph14_1 (sls.keep kh14 hls) hla_11 (ycs.keep kh14 hyc) (kh14.f hkx) ncq_11 ne_11) (fpx_new ns_11 ncq_11 ne_11) (fpx_nd (cp_shW hdq k16 fh14_1 ph14_1 (sls.keep kh14 hls) hla_11 (ycs.keep kh14 hyc) (kh14.f hkx) ncq_11 ne_11))), rfl⟩) dX1_keep_34
set_option maxHeartbeats 4000000 in
theorem ct_keyOf {l : Launch} (hl : l.stackTraces = false) {Γ : zCx} {h : zH} {t m : Int} (ht : -6 ≤ t ∧ t ≤ 9) (hm : m = 0 ∨ m = 1) (hs : -6 ≤ sgn t m ∧ sgn t m ≤ 6)  : zMet l yX1_keyOf (ws_ yX1_keyOf cX1_keyOf 3 (some (.object "ChordSheet$Key"))) ({ frames := 2, cells := 1, slots := 2, locals := 45 }) Γ h [.int (iI t), .int (iI m)] (zrt (fun w h' => ∃ k', w = some (.ref k') ∧ h' k' = some (false, .inr (2, [.int (iI (t)), .int (iI m)])) ∧ h k' = none ∧ zkeep h h' [])) 1 2 := by
  refine zMet.of (cc := cX1_keyOf) hl (plainFor_of_name (by decide +kernel)) (Nat.le_of_ble_eq_true rfl) ?_
  intro X hXl hXΓ hXp C hnm hnL
  have C : zC X cX1_keyOf RX1 (some (.object "ChordSheet$Key")) 2 45 [] := C
  have hnL : X.2.1.2.2.2.2 = 3 := hnL
  subst hXl hXΓ
  show Z X h 1 2 [(0, .int (iI t)), (1, .int (iI m))] 0 []
  refine z_iload_n (pc := 0) (j := 0) C dX1_keyOf_0 rfl rfl ?_
  refine z_i2lI (pc := 1) C dX1_keyOf_1 (by omega) ?_
  refine z_ldc2 (pc := 2) (v := lI (-6)) C ((show (-6 : Int64) = lI (-6) by decide +kernel) ▸ q1903) dX1_keyOf_2 ?_
  refine z_ldc2 (pc := 5) (v := lI 9) C q1904 dX1_keyOf_5 ?_
  refine z_callS (pc := 8) (n := 3) (kc' := 1) (ks' := 2) C (ct_isIn C.t (a := t) (b := (-6)) (c := 9) (by omega) (by decide) (by decide)) (lw_S q1647 q1648 q63 q1649) (by decide +kernel) ⟨by decide, by decide⟩ rfl rfl (Nat.le_of_ble_eq_true rfl) dX1_keyOf_8 (by omega) (by omega) (zpk (st' := [.int (iI (if (-6) ≤ t ∧ t ≤ 9 then 1 else 0))]) rfl ?_) zrx
  rw [show ((if (-6) ≤ t ∧ t ≤ 9 then 1 else 0) : Int) = 1 from if_pos (by omega)]
  show Z X h 1 2 [(0, .int (iI t)), (1, .int (iI m))] 11 [.int (iI 1)]
  refine z_callS (pc := 11) (n := 1) (kc' := 1) (ks' := 2) C (ct_chkA C.t) (lw_S q1650 q1651 q63 q1652) (by decide +kernel) ⟨by decide, by decide⟩ rfl rfl (Nat.le_of_ble_eq_true rfl) dX1_keyOf_11 (by omega) (by omega) (zpk (st' := []) rfl ?_) zrx
  refine z_new (pc := 14) (ci := 2) (kc' := 0) (ks' := 0) (fs := [.int (iI 0), .int (iI 0)]) C in_X3 tyX3 tyX3_ok rfl q117 q118 q65 df_X3 (by omega) (by omega) dX1_keyOf_14 (fun a1 fa1 => ?_)
  refine Z.nm (fun h2 eh2 => ?_)
  have na1 : h a1 = none := fa1
  have kh2 : zkeep h h2 [] := by rw [eh2]; exact zkeep.born zkeep.rf fa1
  have fh2_0 : h2 a1 = some (true, .inr (2, [.int (iI 0), .int (iI 0)])) := zse eh2
  refine z_dup (pc := 17) C dX1_keyOf_17 rfl ?_
  refine z_iload_n (pc := 18) (j := 0) C dX1_keyOf_18 rfl rfl ?_
  refine z_iload_n (pc := 19) (j := 1) C dX1_keyOf_19 rfl rfl ?_
  refine z_callI (pc := 20) (n := 2) (kc' := 0) (ks' := 0) C (ct_K_init C.t (t := t) (m := m) fh2_0 (by omega)) q121 q65 q119 q120 rfl (by decide +kernel) ⟨by decide, by decide⟩ rfl rfl (Nat.le_of_ble_eq_true rfl) dX1_keyOf_20 (by omega) (by omega) (zrk fun w h3 hp => ?_) zrx
  obtain ⟨rfl, fq4, k5⟩ := hp
  have kh3 : zkeep h h3 [] := zkeep.loc kh2 k5 (zall_cons (Or.inl (Or.symm (Or.inr na1))) zall_nil)
  show Z X h3 0 0 [(0, .int (iI t)), (1, .int (iI m))] 23 [.ref a1]
  refine z_astore_n (pc := 23) (L' := [(2, .ref a1), (0, .int (iI t)), (1, .int (iI m))]) C dX1_keyOf_23 rfl (by rw [hnL]; decide) rfl ?_
  refine z_aload_n (pc := 24) (j := 0) C dX1_keyOf_24 rfl rfl ?_
  refine z_callV (pc := 25) (n := 0) (kc' := 0) (ks' := 0) C (ct_K_allowed C.t (t := t) (m := m) fq4 (by omega) (by omega)) (lw_V q1905 q1906 q1907 q65 q1908) (by decide +kernel) ⟨by decide, by decide⟩ fq4 rfl rfl rfl (Nat.le_of_ble_eq_true rfl) dX1_keyOf_25 (by omega) (by omega) (zpk (st' := [.int (iI (if -6 ≤ sgn t m ∧ sgn t m ≤ 6 then 1 else 0))]) rfl ?_) zrx
  rw [show ((if -6 ≤ sgn t m ∧ sgn t m ≤ 6 then 1 else 0) : Int) = 1 from if_pos (by omega)]
  show Z X h3 0 0 [(2, .ref a1), (0, .int (iI t)), (1, .int (iI m))] 28 [.int (iI 1)]
  refine z_callS (pc := 28) (n := 1) (kc' := 0) (ks' := 0) C (ct_chkA C.t) (lw_S q1650 q1651 q63 q1652) (by decide +kernel) ⟨by decide, by decide⟩ rfl rfl (Nat.le_of_ble_eq_true rfl) dX1_keyOf_28 (by omega) (by omega) (zpk (st' := []) rfl ?_) zrx
  refine z_aload_n (pc := 31) (j := 0) C dX1_keyOf_31 rfl rfl ?_
  exact z_areturn (pc := 32) C (Or.inl ⟨_, rfl⟩) (Or.inr ⟨_, rfl⟩) (by rw [hXp]; exact ⟨_, rfl, a1, rfl, fq4, na1, kh3⟩) dX1_keyOf_32
set_option maxHeartbeats 4000000 in
theorem ct_keyOf_b1 {l : Launch} (hl : l.stackTraces = false) {Γ : zCx} {h : zH} {t m : Int} (hr : -2147483648 ≤ t ∧ t ≤ 2147483647) (hm : m = 0 ∨ m = 1) (ht : ¬ (-6 ≤ t ∧ t ≤ 9))  : zMet l yX1_keyOf (ws_ yX1_keyOf cX1_keyOf 3 (some (.object "ChordSheet$Key"))) ({ frames := 7, cells := 1, slots := 6, locals := 101 }) Γ h [.int (iI t), .int (iI m)] (zthp h "java/lang/IllegalArgumentException") 1 6 := by
  refine zMet.of (cc := cX1_keyOf) hl (plainFor_of_name (by decide +kernel)) (Nat.le_of_ble_eq_true rfl) ?_
  intro X hXl hXΓ hXp C hnm hnL
  have C : zC X cX1_keyOf RX1 (some (.object "ChordSheet$Key")) 7 101 [] := C
  have hnL : X.2.1.2.2.2.2 = 3 := hnL
  subst hXl hXΓ
  show Z X h 1 6 [(0, .int (iI t)), (1, .int (iI m))] 0 []
  refine z_iload_n (pc := 0) (j := 0) C dX1_keyOf_0 rfl rfl ?_
  refine z_i2lI (pc := 1) C dX1_keyOf_1 (by omega) ?_
  refine z_ldc2 (pc := 2) (v := lI (-6)) C ((show (-6 : Int64) = lI (-6) by decide +kernel) ▸ q1903) dX1_keyOf_2 ?_
  refine z_ldc2 (pc := 5) (v := lI 9) C q1904 dX1_keyOf_5 ?_
  refine z_callS (pc := 8) (n := 3) (kc' := 1) (ks' := 6) C (ct_isIn C.t (a := t) (b := (-6)) (c := 9) (by omega) (by decide) (by decide)) (lw_S q1647 q1648 q63 q1649) (by decide +kernel) ⟨by decide, by decide⟩ rfl rfl (Nat.le_of_ble_eq_true rfl) dX1_keyOf_8 (by omega) (by omega) (zpk (st' := [.int (iI (if (-6) ≤ t ∧ t ≤ 9 then 1 else 0))]) rfl ?_) zrx
  rw [show ((if (-6) ≤ t ∧ t ≤ 9 then 1 else 0) : Int) = 0 from if_neg (by omega)]
  show Z X h 1 6 [(0, .int (iI t)), (1, .int (iI m))] 11 [.int (iI 0)]
  refine z_callS (pc := 11) (n := 1) (kc' := 0) (ks' := 0) C (ct_chkAb C.t ) (lw_S q1650 q1651 q63 q1652) (by decide +kernel) ⟨by decide, by decide⟩ rfl rfl (Nat.le_of_ble_eq_true rfl) dX1_keyOf_11 (by omega) (by omega) zthk (zthx fun q2 h1 hp => ?_)
  rw [hp]
  exact zx_out C (fun x hx => nomatch hx) (by rw [hXp]; exact ⟨_, rfl, rfl⟩)
set_option maxHeartbeats 4000000 in
theorem ct_keyOf_b2 {l : Launch} (hl : l.stackTraces = false) {Γ : zCx} {h : zH} {t m : Int} (ht : -6 ≤ t ∧ t ≤ 9) (hm : m = 0 ∨ m = 1) (hs : ¬ (-6 ≤ sgn t m ∧ sgn t m ≤ 6))  : zMet l yX1_keyOf (ws_ yX1_keyOf cX1_keyOf 3 (some (.object "ChordSheet$Key"))) ({ frames := 7, cells := 2, slots := 8, locals := 101 }) Γ h [.int (iI t), .int (iI m)] (zth "java/lang/IllegalArgumentException" fun _ h' => zkeep h h' []) 2 8 := by
  refine zMet.of (cc := cX1_keyOf) hl (plainFor_of_name (by decide +kernel)) (Nat.le_of_ble_eq_true rfl) ?_
  intro X hXl hXΓ hXp C hnm hnL
  have C : zC X cX1_keyOf RX1 (some (.object "ChordSheet$Key")) 7 101 [] := C
  have hnL : X.2.1.2.2.2.2 = 3 := hnL
  subst hXl hXΓ
  show Z X h 2 8 [(0, .int (iI t)), (1, .int (iI m))] 0 []
  refine z_iload_n (pc := 0) (j := 0) C dX1_keyOf_0 rfl rfl ?_
  refine z_i2lI (pc := 1) C dX1_keyOf_1 (by omega) ?_
  refine z_ldc2 (pc := 2) (v := lI (-6)) C ((show (-6 : Int64) = lI (-6) by decide +kernel) ▸ q1903) dX1_keyOf_2 ?_
  refine z_ldc2 (pc := 5) (v := lI 9) C q1904 dX1_keyOf_5 ?_
  refine z_callS (pc := 8) (n := 3) (kc' := 2) (ks' := 8) C (ct_isIn C.t (a := t) (b := (-6)) (c := 9) (by omega) (by decide) (by decide)) (lw_S q1647 q1648 q63 q1649) (by decide +kernel) ⟨by decide, by decide⟩ rfl rfl (Nat.le_of_ble_eq_true rfl) dX1_keyOf_8 (by omega) (by omega) (zpk (st' := [.int (iI (if (-6) ≤ t ∧ t ≤ 9 then 1 else 0))]) rfl ?_) zrx
  rw [show ((if (-6) ≤ t ∧ t ≤ 9 then 1 else 0) : Int) = 1 from if_pos (by omega)]
  show Z X h 2 8 [(0, .int (iI t)), (1, .int (iI m))] 11 [.int (iI 1)]
  refine z_callS (pc := 11) (n := 1) (kc' := 2) (ks' := 8) C (ct_chkA C.t) (lw_S q1650 q1651 q63 q1652) (by decide +kernel) ⟨by decide, by decide⟩ rfl rfl (Nat.le_of_ble_eq_true rfl) dX1_keyOf_11 (by omega) (by omega) (zpk (st' := []) rfl ?_) zrx
  refine z_new (pc := 14) (ci := 2) (kc' := 1) (ks' := 6) (fs := [.int (iI 0), .int (iI 0)]) C in_X3 tyX3 tyX3_ok rfl q117 q118 q65 df_X3 (by omega) (by omega) dX1_keyOf_14 (fun a1 fa1 => ?_)
  refine Z.nm (fun h2 eh2 => ?_)
  have na1 : h a1 = none := fa1
  have kh2 : zkeep h h2 [] := by rw [eh2]; exact zkeep.born zkeep.rf fa1
  have fh2_0 : h2 a1 = some (true, .inr (2, [.int (iI 0), .int (iI 0)])) := zse eh2
  refine z_dup (pc := 17) C dX1_keyOf_17 rfl ?_
  refine z_iload_n (pc := 18) (j := 0) C dX1_keyOf_18 rfl rfl ?_
  refine z_iload_n (pc := 19) (j := 1) C dX1_keyOf_19 rfl rfl ?_
  refine z_callI (pc := 20) (n := 2) (kc' := 1) (ks' := 6) C (ct_K_init C.t (t := t) (m := m) fh2_0 (by omega)) q121 q65 q119 q120 rfl (by decide +kernel) ⟨by decide, by decide⟩ rfl rfl (Nat.le_of_ble_eq_true rfl) dX1_keyOf_20 (by omega) (by omega) (zrk fun w h3 hp => ?_) zrx
  obtain ⟨rfl, fq4, k5⟩ := hp
  have kh3 : zkeep h h3 [] := zkeep.loc kh2 k5 (zall_cons (Or.inl (Or.symm (Or.inr na1))) zall_nil)
  show Z X h3 1 6 [(0, .int (iI t)), (1, .int (iI m))] 23 [.ref a1]
  refine z_astore_n (pc := 23) (L' := [(2, .ref a1), (0, .int (iI t)), (1, .int (iI m))]) C dX1_keyOf_23 rfl (by rw [hnL]; decide) rfl ?_
  refine z_aload_n (pc := 24) (j := 0) C dX1_keyOf_24 rfl rfl ?_
  refine z_callV (pc := 25) (n := 0) (kc' := 1) (ks' := 6) C (ct_K_allowed C.t (t := t) (m := m) fq4 (by omega) (by omega)) (lw_V q1905 q1906 q1907 q65 q1908) (by decide +kernel) ⟨by decide, by decide⟩ fq4 rfl rfl rfl (Nat.le_of_ble_eq_true rfl) dX1_keyOf_25 (by omega) (by omega) (zpk (st' := [.int (iI (if -6 ≤ sgn t m ∧ sgn t m ≤ 6 then 1 else 0))]) rfl ?_) zrx
  rw [show ((if -6 ≤ sgn t m ∧ sgn t m ≤ 6 then 1 else 0) : Int) = 0 from if_neg (by omega)]
  show Z X h3 1 6 [(2, .ref a1), (0, .int (iI t)), (1, .int (iI m))] 28 [.int (iI 0)]
  refine z_callS (pc := 28) (n := 1) (kc' := 0) (ks' := 0) C (ct_chkAb C.t ) (lw_S q1650 q1651 q63 q1652) (by decide +kernel) ⟨by decide, by decide⟩ rfl rfl (Nat.le_of_ble_eq_true rfl) dX1_keyOf_28 (by omega) (by omega) zthk (zthx fun q7 h6 hp => ?_)
  rw [hp]
  exact zx_out C (fun x hx => nomatch hx) (by rw [hXp]; exact ⟨_, rfl, kh3⟩)
set_option maxHeartbeats 4000000 in
theorem op_setKey {l : Launch} (hl : l.stackTraces = false) {Γ : zCx} {h : zH} {c : Nat} {A : zWA} {σ : zSt} (hW : csW Γ h c A σ) {t m : Int} (ht : -6 ≤ t ∧ t ≤ 9) (hm : m = 0 ∨ m = 1) (hs : -6 ≤ sgn t m ∧ sgn t m ≤ 6)  : zMet l yX1_setKey (ws_ yX1_setKey cX1_setKey 5 (some .int)) ({ frames := 9, cells := (1 + (3 + bLC 0 σ.sh.ls.length + bLC 0 σ.sh.cs.length)), slots := (2 + (9 + bLS 0 σ.sh.ls.length + bLS 0 σ.sh.cs.length)), locals := 194 }) Γ h [.ref c, .int (iI t), .int (iI m)] (zrt (fun w h' => w = some (.int (iI (sgn σ.sh.t σ.sh.m))) ∧ ∃ A', wR Γ h c A h' A' (σ.kp.tx, σ.kp.si, σ.kp.fl, σ.kp.wd, (σ.sh.ls, σ.sh.cs, t, m), σ.kp.hi))) (1 + (3 + bLC 0 σ.sh.ls.length + bLC 0 σ.sh.cs.length)) (2 + (9 + bLS 0 σ.sh.ls.length + bLS 0 σ.sh.cs.length)) := by
  refine zMet.of (cc := cX1_setKey) hl (plainFor_of_name (by decide +kernel)) (Nat.le_of_ble_eq_true rfl) ?_
  intro X hXl hXΓ hXp C hnm hnL
  have C : zC X cX1_setKey RX1 (some .int) 9 194 [] := C
  have hnL : X.2.1.2.2.2.2 = 5 := hnL
  subst hXl hXΓ
  show Z X h (1 + (3 + bLC 0 σ.sh.ls.length + bLC 0 σ.sh.cs.length)) (2 + (9 + bLS 0 σ.sh.ls.length + bLS 0 σ.sh.cs.length)) [(0, .ref c), (1, .int (iI t)), (2, .int (iI m))] 0 []
  obtain ⟨⟨tf, hc0, htx, hch⟩, hdq, ⟨lq, kq, lys, ys, hsx, hfl, hls, hl0, hyc, hkx⟩, hhi, hnd, hR⟩ := id hW
  obtain ⟨rsi, rff, rwd, rtl, rtx, rsh, rhi, rhl⟩ := id hR
  obtain ⟨rcl, rcr, rll, rlt, rkt, rkm, rks⟩ := rsh
  have hll := hls.len
  have hyl := hyc.len
  obtain ⟨lm, le0, ln0, lf, hlq, hle, hln, hlN, hlx⟩ := id hfl
  have hxw := hl0
  obtain ⟨mw, fw, law, lew, lzw, ltw, lnw, lcw, lxw, lqw⟩ := hxw
  have hcl := hyc.cl lxw
  refine z_iload_n (pc := 0) (j := 1) C dX1_setKey_0 rfl rfl ?_
  refine z_iload_n (pc := 1) (j := 2) C dX1_setKey_1 rfl rfl ?_
  refine z_callS (pc := 2) (n := 2) (kc' := ((1 + (3 + bLC 0 σ.sh.ls.length + bLC 0 σ.sh.cs.length)) - 1)) (ks' := ((2 + (9 + bLS 0 σ.sh.ls.length + bLS 0 σ.sh.cs.length)) - 2)) C (ct_keyOf C.t (t := t) (m := m) (by omega) (by omega) (by omega)) (lw_S q1900 q1901 q63 q1902) (by decide +kernel) ⟨by decide, by decide⟩ rfl rfl (Nat.le_of_ble_eq_true rfl) dX1_setKey_2 (by omega) (by omega) (zrk fun w h2 hp => ?_) zrx
  obtain ⟨a1, rfl, fka1, fa1, k3⟩ := hp
  have na1 : h a1 = none := fa1
  have kh2 : zkeep h h2 [] := zkeep.loc zkeep.rf k3 zall_nil
  show Z X h2 ((1 + (3 + bLC 0 σ.sh.ls.length + bLC 0 σ.sh.cs.length)) - 1) ((2 + (9 + bLS 0 σ.sh.ls.length + bLS 0 σ.sh.cs.length)) - 2) [(0, .ref c), (1, .int (iI t)), (2, .int (iI m))] 5 [.ref a1]
  refine z_astore_n (pc := 5) (L' := [(3, .ref a1), (0, .ref c), (1, .int (iI t)), (2, .int (iI m))]) C dX1_setKey_5 rfl (by rw [hnL]; decide) rfl ?_
  refine z_aload_n (pc := 6) (j := 1) C dX1_setKey_6 rfl rfl ?_
  refine z_callV (pc := 7) (n := 0) (kc' := (((1 + (3 + bLC 0 σ.sh.ls.length + bLC 0 σ.sh.cs.length)) - 1) - (3 + bLC 0 σ.sh.ls.length + bLC 0 σ.sh.cs.length))) (ks' := (((2 + (9 + bLS 0 σ.sh.ls.length + bLS 0 σ.sh.cs.length)) - 2) - (9 + bLS 0 σ.sh.ls.length + bLS 0 σ.sh.cs.length))) C (op_keep C.t (hW.keep0 kh2)) (lw_V q931 q933 qs10 q63 q934) (by decide +kernel) ⟨by decide, by decide⟩ (kh2.n hc0 List.not_mem_nil) rfl rfl rfl (Nat.le_of_ble_eq_true rfl) dX1_setKey_7 (by omega) (by omega) (zrk fun w h4 hp => ?_) zrx
  obtain ⟨rfl, A_5, hR_5, hcu_5⟩ := hp
  have hW_5 := hR_5.1
  have hk_5 := hR_5.2.1
  have fz6 : h4 a1 = some (false, .inr (2, [.int (iI t), .int (iI m)])) := hk_5.f fka1
  obtain ⟨⟨tf, hc0, htx, hch⟩, hdq, ⟨lq, kq, lys, ys, hsx, hfl, hls, hl0, hyc, hkx⟩, hhi, hnd, hR⟩ := id hW_5
  obtain ⟨rsi, rff, rwd, rtl, rtx, rsh, rhi, rhl⟩ := id hR
  obtain ⟨rcl, rcr, rll, rlt, rkt, rkm, rks⟩ := rsh
  have hll := hls.len
  have hyl := hyc.len
  obtain ⟨lm, le0, ln0, lf, hlq, hle, hln, hlN, hlx⟩ := id hfl
  have hxw := hl0
  obtain ⟨mw, fw, law, lew, lzw, ltw, lnw, lcw, lxw, lqw⟩ := hxw
  have hcl := hyc.cl lxw
  show Z X h4 (((1 + (3 + bLC 0 σ.sh.ls.length + bLC 0 σ.sh.cs.length)) - 1) - (3 + bLC 0 σ.sh.ls.length + bLC 0 σ.sh.cs.length)) (((2 + (9 + bLS 0 σ.sh.ls.length + bLS 0 σ.sh.cs.length)) - 2) - (9 + bLS 0 σ.sh.ls.length + bLS 0 σ.sh.cs.length)) [(3, .ref a1), (0, .ref c), (1, .int (iI t)), (2, .int (iI m))] 10 []
  have hnm1 : A_5.cu.cq ∉ [A_5.cu.s] := by simpa using Ne.symm (zneC hsx law (by decide))
  have hnm2 : A_5.cu.cap = 0 ∨ A_5.cu.e ∉ [A_5.cu.s] := Or.inr (by simpa using Ne.symm (zneA hsx lew))
  refine z_aload_n (pc := 10) (j := 1) C dX1_setKey_10 rfl rfl ?_
  refine z_getfield (pc := 11) (v := .ref A_5.cu.s) C in_X1 rfl 5 (by decide) q282 (fun _ z => z) hc0 rfl dX1_setKey_11 ?_
  refine z_getfieldN (pc := 14) (v := .ref kq) C in_X2 rfl 2 (by decide) q175 (fun _ z => z) hsx rfl dX1_setKey_14 ?_
  refine z_callV (pc := 17) (n := 0) (kc' := (((1 + (3 + bLC 0 σ.sh.ls.length + bLC 0 σ.sh.cs.length)) - 1) - (3 + bLC 0 σ.sh.ls.length + bLC 0 σ.sh.cs.length))) (ks' := (((2 + (9 + bLS 0 σ.sh.ls.length + bLS 0 σ.sh.cs.length)) - 2) - (9 + bLS 0 σ.sh.ls.length + bLS 0 σ.sh.cs.length))) C (ct_K_sig C.t (t := σ.kp.sh.t) (m := σ.kp.sh.m) hkx (by omega) (by omega)) (lw_V q1024 q921 q922 q65 q923) (by decide +kernel) ⟨by decide, by decide⟩ hkx rfl rfl rfl (Nat.le_of_ble_eq_true rfl) dX1_setKey_17 (by omega) (by omega) (zpk (st' := [.int (iI (sgn σ.kp.sh.t σ.kp.sh.m))]) rfl ?_) zrx
  refine z_istore (pc := 20) (L' := [(4, .int (iI (sgn σ.kp.sh.t σ.kp.sh.m))), (3, .ref a1), (0, .ref c), (1, .int (iI t)), (2, .int (iI m))]) C dX1_setKey_20 (by rw [hnL]; decide) rfl ?_
  refine z_aload_n (pc := 22) (j := 2) C dX1_setKey_22 rfl rfl ?_
  refine z_getfield (pc := 23) (v := .ref A_5.cu.s) C in_X1 rfl 5 (by decide) q282 (fun _ z => z) hc0 rfl dX1_setKey_23 ?_
  refine z_aload_n (pc := 26) (j := 1) C dX1_setKey_26 rfl rfl ?_
  refine z_putfieldN (pc := 27) (fs' := [.ref lq, .ref A_5.cu.cq, .ref a1]) C in_X2 tyX2 tyX2_ok nmX2 rfl 2 (by decide) q175 (fun _ z => z) rfl rfl rfl (Nat.le_of_ble_eq_true rfl) hsx rfl dX1_setKey_27 ?_
  refine Z.nm (fun h7 eh7 => ?_)
  have kh7 : zkeep h4 h7 [A_5.cu.s] := by rw [eh7]; exact zkeep.up zkeep.rf (Or.inl (by simp)) hsx
  have fh7_0 : h7 A_5.cu.s = some (true, .inr (1, [.ref lq, .ref A_5.cu.cq, .ref a1])) := zse eh7
  have fh7_1 : h7 a1 = some (false, .inr (2, [.int (iI t), .int (iI m)])) := zsn eh7 fz6 (zneW fz6 hsx)
  refine z_iload (pc := 30) (j := 0) C dX1_setKey_30 rfl ?_
  exact z_ireturn (pc := 32) C (by rw [hXp]; exact ⟨_, rfl, rfl, _, wR.trans (wR.trans (wR.keep0 hW kh2) hR_5) (csW.upSh hW_5 (x := A_5.cu) (S := (σ.sh.ls, σ.sh.cs, t, m)) (zkeep_fp hW_5.2.2.1 (kh7.mono (by simp))) ⟨lq, a1, lys, ys, fh7_0, hfl.keep kh7, hls.keep kh7, hl0.keep kh7 hnm1 hnm2, hyc.keep kh7, fh7_1⟩ rfl (fun _ h4 => Or.inl h4) ⟨rcl, rcr, rll, rlt, (show -20 ≤ t ∧ t ≤ 20 by omega), hm, hs⟩)⟩) dX1_setKey_32
set_option maxHeartbeats 4000000 in
theorem op_setKey_b1 {l : Launch} (hl : l.stackTraces = false) {Γ : zCx} {h : zH} {c : Nat} {A : zWA} {σ : zSt} (hW : csW Γ h c A σ) {t m : Int} (hr : -2147483648 ≤ t ∧ t ≤ 2147483647) (hm : m = 0 ∨ m = 1) (ht : ¬ (-6 ≤ t ∧ t ≤ 9))  : zMet l yX1_setKey (ws_ yX1_setKey cX1_setKey 5 (some .int)) ({ frames := 8, cells := 1, slots := 6, locals := 123 }) Γ h [.ref c, .int (iI t), .int (iI m)] (zthp h "java/lang/IllegalArgumentException") 1 6 := by
  refine zMet.of (cc := cX1_setKey) hl (plainFor_of_name (by decide +kernel)) (Nat.le_of_ble_eq_true rfl) ?_
  intro X hXl hXΓ hXp C hnm hnL
  have C : zC X cX1_setKey RX1 (some .int) 8 123 [] := C
  have hnL : X.2.1.2.2.2.2 = 5 := hnL
  subst hXl hXΓ
  show Z X h 1 6 [(0, .ref c), (1, .int (iI t)), (2, .int (iI m))] 0 []
  obtain ⟨⟨tf, hc0, htx, hch⟩, hdq, ⟨lq, kq, lys, ys, hsx, hfl, hls, hl0, hyc, hkx⟩, hhi, hnd, hR⟩ := id hW
  obtain ⟨rsi, rff, rwd, rtl, rtx, rsh, rhi, rhl⟩ := id hR
  obtain ⟨rcl, rcr, rll, rlt, rkt, rkm, rks⟩ := rsh
  have hll := hls.len
  have hyl := hyc.len
  obtain ⟨lm, le0, ln0, lf, hlq, hle, hln, hlN, hlx⟩ := id hfl
  have hxw := hl0
  obtain ⟨mw, fw, law, lew, lzw, ltw, lnw, lcw, lxw, lqw⟩ := hxw
  have hcl := hyc.cl lxw
  refine z_iload_n (pc := 0) (j := 1) C dX1_setKey_0 rfl rfl ?_
  refine z_iload_n (pc := 1) (j := 2) C dX1_setKey_1 rfl rfl ?_
  refine z_callS (pc := 2) (n := 2) (kc' := 0) (ks' := 0) C (ct_keyOf_b1 C.t (t := t) (m := m) (by omega) (by omega) (by omega)) (lw_S q1900 q1901 q63 q1902) (by decide +kernel) ⟨by decide, by decide⟩ rfl rfl (Nat.le_of_ble_eq_true rfl) dX1_setKey_2 (by omega) (by omega) zthk (zthx fun q2 h1 hp => ?_)
  rw [hp]
  exact zx_out C (fun x hx => nomatch hx) (by rw [hXp]; exact ⟨_, rfl, rfl⟩)
set_option maxHeartbeats 4000000 in
theorem op_score_b1 {l : Launch} (hl : l.stackTraces = false) {Γ : zCx} {h : zH} {c : Nat} {A : zWA} {σ : zSt} (hW : csW Γ h c A σ) {t m : Int} (hr : -2147483648 ≤ t ∧ t ≤ 2147483647) (hm : m = 0 ∨ m = 1) (ht : ¬ (-6 ≤ t ∧ t ≤ 9))  : zMet l yX1_score (ws_ yX1_score cX1_score 3 (some .int)) ({ frames := 8, cells := 1, slots := 6, locals := 123 }) Γ h [.ref c, .int (iI t), .int (iI m)] (zthp h "java/lang/IllegalArgumentException") 1 6 := by
  refine zMet.of (cc := cX1_score) hl (plainFor_of_name (by decide +kernel)) (Nat.le_of_ble_eq_true rfl) ?_
  intro X hXl hXΓ hXp C hnm hnL
  have C : zC X cX1_score RX1 (some .int) 8 123 [] := C
  have hnL : X.2.1.2.2.2.2 = 3 := hnL
  subst hXl hXΓ
  show Z X h 1 6 [(0, .ref c), (1, .int (iI t)), (2, .int (iI m))] 0 []
  obtain ⟨⟨tf, hc0, htx, hch⟩, hdq, ⟨lq, kq, lys, ys, hsx, hfl, hls, hl0, hyc, hkx⟩, hhi, hnd, hR⟩ := id hW
  obtain ⟨rsi, rff, rwd, rtl, rtx, rsh, rhi, rhl⟩ := id hR
  obtain ⟨rcl, rcr, rll, rlt, rkt, rkm, rks⟩ := rsh
  have hll := hls.len
  have hyl := hyc.len
  obtain ⟨lm, le0, ln0, lf, hlq, hle, hln, hlN, hlx⟩ := id hfl
  have hxw := hl0
  obtain ⟨mw, fw, law, lew, lzw, ltw, lnw, lcw, lxw, lqw⟩ := hxw
  have hcl := hyc.cl lxw
  refine z_aload_n (pc := 0) (j := 0) C dX1_score_0 rfl rfl ?_
  refine z_getfield (pc := 1) (v := .ref A.cu.s) C in_X1 rfl 5 (by decide) q282 (fun _ z => z) hc0 rfl dX1_score_1 ?_
  refine z_iload_n (pc := 4) (j := 1) C dX1_score_4 rfl rfl ?_
  refine z_iload_n (pc := 5) (j := 2) C dX1_score_5 rfl rfl ?_
  refine z_callS (pc := 6) (n := 2) (kc' := 0) (ks' := 0) C (ct_keyOf_b1 C.t (t := t) (m := m) (by omega) (by omega) (by omega)) (lw_S q1900 q1901 q63 q1902) (by decide +kernel) ⟨by decide, by decide⟩ rfl rfl (Nat.le_of_ble_eq_true rfl) dX1_score_6 (by omega) (by omega) zthk (zthx fun q2 h1 hp => ?_)
  rw [hp]
  exact zx_out C (fun x hx => nomatch hx) (by rw [hXp]; exact ⟨_, rfl, rfl⟩)
set_option maxHeartbeats 4000000 in
theorem op_setKey_b2 {l : Launch} (hl : l.stackTraces = false) {Γ : zCx} {h : zH} {c : Nat} {A : zWA} {σ : zSt} (hW : csW Γ h c A σ) {t m : Int} (ht : -6 ≤ t ∧ t ≤ 9) (hm : m = 0 ∨ m = 1) (hs : ¬ (-6 ≤ sgn t m ∧ sgn t m ≤ 6))  : zMet l yX1_setKey (ws_ yX1_setKey cX1_setKey 5 (some .int)) ({ frames := 8, cells := 2, slots := 8, locals := 123 }) Γ h [.ref c, .int (iI t), .int (iI m)] (zth "java/lang/IllegalArgumentException" fun _ h' => zkeep h h' []) 2 8 := by
  refine zMet.of (cc := cX1_setKey) hl (plainFor_of_name (by decide +kernel)) (Nat.le_of_ble_eq_true rfl) ?_
  intro X hXl hXΓ hXp C hnm hnL
  have C : zC X cX1_setKey RX1 (some .int) 8 123 [] := C
  have hnL : X.2.1.2.2.2.2 = 5 := hnL
  subst hXl hXΓ
  show Z X h 2 8 [(0, .ref c), (1, .int (iI t)), (2, .int (iI m))] 0 []
  obtain ⟨⟨tf, hc0, htx, hch⟩, hdq, ⟨lq, kq, lys, ys, hsx, hfl, hls, hl0, hyc, hkx⟩, hhi, hnd, hR⟩ := id hW
  obtain ⟨rsi, rff, rwd, rtl, rtx, rsh, rhi, rhl⟩ := id hR
  obtain ⟨rcl, rcr, rll, rlt, rkt, rkm, rks⟩ := rsh
  have hll := hls.len
  have hyl := hyc.len
  obtain ⟨lm, le0, ln0, lf, hlq, hle, hln, hlN, hlx⟩ := id hfl
  have hxw := hl0
  obtain ⟨mw, fw, law, lew, lzw, ltw, lnw, lcw, lxw, lqw⟩ := hxw
  have hcl := hyc.cl lxw
  refine z_iload_n (pc := 0) (j := 1) C dX1_setKey_0 rfl rfl ?_
  refine z_iload_n (pc := 1) (j := 2) C dX1_setKey_1 rfl rfl ?_
  refine z_callS (pc := 2) (n := 2) (kc' := 0) (ks' := 0) C (ct_keyOf_b2 C.t (t := t) (m := m) (by omega) (by omega) (by omega)) (lw_S q1900 q1901 q63 q1902) (by decide +kernel) ⟨by decide, by decide⟩ rfl rfl (Nat.le_of_ble_eq_true rfl) dX1_setKey_2 (by omega) (by omega) zthk (zthx fun q2 h1 hp => ?_)
  exact zx_out C (fun x hx => nomatch hx) (by rw [hXp]; exact ⟨_, rfl, hp⟩)
set_option maxHeartbeats 4000000 in
theorem op_score_b2 {l : Launch} (hl : l.stackTraces = false) {Γ : zCx} {h : zH} {c : Nat} {A : zWA} {σ : zSt} (hW : csW Γ h c A σ) {t m : Int} (ht : -6 ≤ t ∧ t ≤ 9) (hm : m = 0 ∨ m = 1) (hs : ¬ (-6 ≤ sgn t m ∧ sgn t m ≤ 6))  : zMet l yX1_score (ws_ yX1_score cX1_score 3 (some .int)) ({ frames := 8, cells := 2, slots := 8, locals := 123 }) Γ h [.ref c, .int (iI t), .int (iI m)] (zth "java/lang/IllegalArgumentException" fun _ h' => zkeep h h' []) 2 8 := by
  refine zMet.of (cc := cX1_score) hl (plainFor_of_name (by decide +kernel)) (Nat.le_of_ble_eq_true rfl) ?_
  intro X hXl hXΓ hXp C hnm hnL
  have C : zC X cX1_score RX1 (some .int) 8 123 [] := C
  have hnL : X.2.1.2.2.2.2 = 3 := hnL
  subst hXl hXΓ
  show Z X h 2 8 [(0, .ref c), (1, .int (iI t)), (2, .int (iI m))] 0 []
  obtain ⟨⟨tf, hc0, htx, hch⟩, hdq, ⟨lq, kq, lys, ys, hsx, hfl, hls, hl0, hyc, hkx⟩, hhi, hnd, hR⟩ := id hW
  obtain ⟨rsi, rff, rwd, rtl, rtx, rsh, rhi, rhl⟩ := id hR
  obtain ⟨rcl, rcr, rll, rlt, rkt, rkm, rks⟩ := rsh
  have hll := hls.len
  have hyl := hyc.len
  obtain ⟨lm, le0, ln0, lf, hlq, hle, hln, hlN, hlx⟩ := id hfl
  have hxw := hl0
  obtain ⟨mw, fw, law, lew, lzw, ltw, lnw, lcw, lxw, lqw⟩ := hxw
  have hcl := hyc.cl lxw
  refine z_aload_n (pc := 0) (j := 0) C dX1_score_0 rfl rfl ?_
  refine z_getfield (pc := 1) (v := .ref A.cu.s) C in_X1 rfl 5 (by decide) q282 (fun _ z => z) hc0 rfl dX1_score_1 ?_
  refine z_iload_n (pc := 4) (j := 1) C dX1_score_4 rfl rfl ?_
  refine z_iload_n (pc := 5) (j := 2) C dX1_score_5 rfl rfl ?_
  refine z_callS (pc := 6) (n := 2) (kc' := 0) (ks' := 0) C (ct_keyOf_b2 C.t (t := t) (m := m) (by omega) (by omega) (by omega)) (lw_S q1900 q1901 q63 q1902) (by decide +kernel) ⟨by decide, by decide⟩ rfl rfl (Nat.le_of_ble_eq_true rfl) dX1_score_6 (by omega) (by omega) zthk (zthx fun q2 h1 hp => ?_)
  exact zx_out C (fun x hx => nomatch hx) (by rw [hXp]; exact ⟨_, rfl, hp⟩)
set_option maxHeartbeats 4000000 in
theorem op_score {l : Launch} (hl : l.stackTraces = false) {Γ : zCx} {h : zH} {c : Nat} {A : zWA} {σ : zSt} (hW : csW Γ h c A σ) {t m : Int} (ht : -6 ≤ t ∧ t ≤ 9) (hm : m = 0 ∨ m = 1) (hs : -6 ≤ sgn t m ∧ sgn t m ≤ 6)  : zMet l yX1_score (ws_ yX1_score cX1_score 3 (some .int)) ({ frames := 4, cells := 1, slots := 2, locals := 91 }) Γ h [.ref c, .int (iI t), .int (iI m)] (zrt (fun w h' => w = some (.int (iI (scl t m σ.sh.cs))) ∧ zkeep h h' [])) 1 2 := by
  refine zMet.of (cc := cX1_score) hl (plainFor_of_name (by decide +kernel)) (Nat.le_of_ble_eq_true rfl) ?_
  intro X hXl hXΓ hXp C hnm hnL
  have C : zC X cX1_score RX1 (some .int) 4 91 [] := C
  have hnL : X.2.1.2.2.2.2 = 3 := hnL
  subst hXl hXΓ
  show Z X h 1 2 [(0, .ref c), (1, .int (iI t)), (2, .int (iI m))] 0 []
  obtain ⟨⟨tf, hc0, htx, hch⟩, hdq, ⟨lq, kq, lys, ys, hsx, hfl, hls, hl0, hyc, hkx⟩, hhi, hnd, hR⟩ := id hW
  obtain ⟨rsi, rff, rwd, rtl, rtx, rsh, rhi, rhl⟩ := id hR
  obtain ⟨rcl, rcr, rll, rlt, rkt, rkm, rks⟩ := rsh
  have hll := hls.len
  have hyl := hyc.len
  obtain ⟨lm, le0, ln0, lf, hlq, hle, hln, hlN, hlx⟩ := id hfl
  have hxw := hl0
  obtain ⟨mw, fw, law, lew, lzw, ltw, lnw, lcw, lxw, lqw⟩ := hxw
  have hcl := hyc.cl lxw
  refine z_aload_n (pc := 0) (j := 0) C dX1_score_0 rfl rfl ?_
  refine z_getfield (pc := 1) (v := .ref A.cu.s) C in_X1 rfl 5 (by decide) q282 (fun _ z => z) hc0 rfl dX1_score_1 ?_
  refine z_iload_n (pc := 4) (j := 1) C dX1_score_4 rfl rfl ?_
  refine z_iload_n (pc := 5) (j := 2) C dX1_score_5 rfl rfl ?_
  refine z_callS (pc := 6) (n := 2) (kc' := 0) (ks' := 0) C (ct_keyOf C.t (t := t) (m := m) (by omega) (by omega) (by omega)) (lw_S q1900 q1901 q63 q1902) (by decide +kernel) ⟨by decide, by decide⟩ rfl rfl (Nat.le_of_ble_eq_true rfl) dX1_score_6 (by omega) (by omega) (zrk fun w h2 hp => ?_) zrx
  obtain ⟨a1, rfl, fka1, fa1, k3⟩ := hp
  have na1 : h a1 = none := fa1
  have kh2 : zkeep h h2 [] := zkeep.loc zkeep.rf k3 zall_nil
  show Z X h2 0 0 [(0, .ref c), (1, .int (iI t)), (2, .int (iI m))] 9 [.ref a1, .ref A.cu.s]
  have hcqf : h2 A.cu.cq = some (true, .inr (10, [.int (iI mw), .ref A.cu.e, .int (iI ((σ.sh.cs.length : Nat) : Int))])) := hyl ▸ (kh2.n law List.not_mem_nil)
  refine z_callV (pc := 9) (n := 1) (kc' := 0) (ks' := 0) C (ct_S_score C.t (kh2.n hsx List.not_mem_nil) hcqf (kh2.n lew List.not_mem_nil) (clA.keep kh2 hcl) ⟨by omega, lcw⟩ rcr (by omega) fka1 (by omega) (by omega)) (lw_V q1919 q893 q894 q64 q895) (by decide +kernel) ⟨by decide, by decide⟩ (kh2.n hsx List.not_mem_nil) rfl rfl rfl (Nat.le_of_ble_eq_true rfl) dX1_score_9 (by omega) (by omega) (zpk (st' := [.int (iI (scl t m σ.sh.cs))]) rfl ?_) zrx
  exact z_ireturn (pc := 12) C (by rw [hXp]; exact ⟨_, rfl, rfl, kh2⟩) dX1_score_12
set_option maxHeartbeats 4000000 in
theorem op_findKey {l : Launch} (hl : l.stackTraces = false) {Γ : zCx} {h : zH} {c : Nat} {A : zWA} {σ : zSt} (hW : csW Γ h c A σ)  : zMet l yX1_findKey (ws_ yX1_findKey cX1_findKey 2 (some .int)) ({ frames := 5, cells := 27, slots := 54, locals := 115 }) Γ h [.ref c] (zrt (fun w h' => w = some (.int (iI ((lik σ.sh.cs).1 + (if (lik σ.sh.cs).2 = 1 then 100 else 0)))) ∧ zkeep h h' [])) 27 54 := by
  refine zMet.of (cc := cX1_findKey) hl (plainFor_of_name (by decide +kernel)) (Nat.le_of_ble_eq_true rfl) ?_
  intro X hXl hXΓ hXp C hnm hnL
  have C : zC X cX1_findKey RX1 (some .int) 5 115 [] := C
  have hnL : X.2.1.2.2.2.2 = 2 := hnL
  subst hXl hXΓ
  show Z X h 27 54 [(0, .ref c)] 0 []
  obtain ⟨⟨tf, hc0, htx, hch⟩, hdq, ⟨lq, kq, lys, ys, hsx, hfl, hls, hl0, hyc, hkx⟩, hhi, hnd, hR⟩ := id hW
  obtain ⟨rsi, rff, rwd, rtl, rtx, rsh, rhi, rhl⟩ := id hR
  obtain ⟨rcl, rcr, rll, rlt, rkt, rkm, rks⟩ := rsh
  have hll := hls.len
  have hyl := hyc.len
  obtain ⟨lm, le0, ln0, lf, hlq, hle, hln, hlN, hlx⟩ := id hfl
  have hxw := hl0
  obtain ⟨mw, fw, law, lew, lzw, ltw, lnw, lcw, lxw, lqw⟩ := hxw
  have hcl := hyc.cl lxw
  refine z_aload_n (pc := 0) (j := 0) C dX1_findKey_0 rfl rfl ?_
  refine z_getfield (pc := 1) (v := .ref A.cu.s) C in_X1 rfl 5 (by decide) q282 (fun _ z => z) hc0 rfl dX1_findKey_1 ?_
  have hcqf : h A.cu.cq = some (true, .inr (10, [.int (iI mw), .ref A.cu.e, .int (iI ((σ.sh.cs.length : Nat) : Int))])) := hyl ▸ law
  refine z_callV (pc := 4) (n := 0) (kc' := 0) (ks' := 0) C (ct_S_lik C.t hsx hcqf lew hcl ⟨by omega, lcw⟩ rcr (by omega)) (lw_V q1029 q882 q883 q64 q884) (by decide +kernel) ⟨by decide, by decide⟩ hsx rfl rfl rfl (Nat.le_of_ble_eq_true rfl) dX1_findKey_4 (by omega) (by omega) (zrk fun w h1 hp => ?_) zrx
  obtain ⟨a3, rfl, fka3, k2⟩ := hp
  have kh1 : zkeep h h1 [] := zkeep.loc zkeep.rf k2 zall_nil
  show Z X h1 0 0 [(0, .ref c)] 7 [.ref a3]
  refine z_astore_n (pc := 7) (L' := [(1, .ref a3), (0, .ref c)]) C dX1_findKey_7 rfl (by rw [hnL]; decide) rfl ?_
  have hlr := lik_r σ.sh.cs
  refine z_aload_n (pc := 8) (j := 0) C dX1_findKey_8 rfl rfl ?_
  refine z_getfieldN (pc := 9) (v := .int (iI ((lik σ.sh.cs).1))) C in_X3 rfl 0 (by decide) q125 (fun _ z => z) fka3 rfl dX1_findKey_9 ?_
  refine z_aload_n (pc := 12) (j := 0) C dX1_findKey_12 rfl rfl ?_
  refine z_getfieldN (pc := 13) (v := .int (iI ((lik σ.sh.cs).2))) C in_X3 rfl 1 (by decide) q128 (fun _ z => z) fka3 rfl dX1_findKey_13 ?_
  refine z_if_eq (pc := 16) (tgt := 24) C dX1_findKey_16 (by decide) (by omega) (fun c16 => ?_) (fun c16 => ?_)
  · refine z_iconst (pc := 24) C dX1_findKey_24 ?_
    refine z_iadd (pc := 25) C dX1_findKey_25 ?_
    exact z_ireturn (pc := 26) C (by rw [hXp]; exact ⟨_, rfl, (show some (Value.int (iI (((lik σ.sh.cs).1) + 0))) = _ by rw [show (((lik σ.sh.cs).1) + 0) = (lik σ.sh.cs).1 + (if (lik σ.sh.cs).2 = 1 then 100 else 0) by split <;> omega]), kh1⟩) dX1_findKey_26
  · refine z_bipush (pc := 19) C dX1_findKey_19 (by decide) ?_
    refine z_goto (pc := 21) (tgt := 25) C dX1_findKey_21 (by decide) ?_
    refine z_iadd (pc := 25) C dX1_findKey_25 ?_
    exact z_ireturn (pc := 26) C (by rw [hXp]; exact ⟨_, rfl, (show some (Value.int (iI (((lik σ.sh.cs).1) + 100))) = _ by rw [show (((lik σ.sh.cs).1) + 100) = (lik σ.sh.cs).1 + (if (lik σ.sh.cs).2 = 1 then 100 else 0) by split <;> omega]), kh1⟩) dX1_findKey_26
set_option maxHeartbeats 4000000 in
theorem op_removeChord {l : Launch} (hl : l.stackTraces = false) {Γ : zCx} {h : zH} {c : Nat} {A : zWA} {σ : zSt} (hW : csW Γ h c A σ) {i : Int} (hi : 0 ≤ i ∧ i < (σ.sh.cs.length : Nat))  : zMet l yX1_removeChord (ws_ yX1_removeChord cX1_removeChord 2 (some .int)) ({ frames := 9, cells := (3 + bLC 0 σ.sh.ls.length + bLC 0 σ.sh.cs.length), slots := (9 + bLS 0 σ.sh.ls.length + bLS 0 σ.sh.cs.length), locals := 194 }) Γ h [.ref c, .int (iI i)] (zrt (fun w h' => w = some (.int (iI (((σ.sh.cs.length : Nat) : Int) - 1))) ∧ ∃ A', wR Γ h c A h' A' (σ.kp.tx, σ.kp.si, σ.kp.fl, σ.kp.wd, (σ.kp.sh.ls, σ.kp.sh.cs.eraseIdx i.toNat, σ.kp.sh.t, σ.kp.sh.m), σ.kp.hi))) (3 + bLC 0 σ.sh.ls.length + bLC 0 σ.sh.cs.length) (9 + bLS 0 σ.sh.ls.length + bLS 0 σ.sh.cs.length) := by
  refine zMet.of (cc := cX1_removeChord) hl (plainFor_of_name (by decide +kernel)) (Nat.le_of_ble_eq_true rfl) ?_
  intro X hXl hXΓ hXp C hnm hnL
  have C : zC X cX1_removeChord RX1 (some .int) 9 194 [] := C
  have hnL : X.2.1.2.2.2.2 = 2 := hnL
  subst hXl hXΓ
  show Z X h (3 + bLC 0 σ.sh.ls.length + bLC 0 σ.sh.cs.length) (9 + bLS 0 σ.sh.ls.length + bLS 0 σ.sh.cs.length) [(0, .ref c), (1, .int (iI i))] 0 []
  obtain ⟨⟨tf, hc0, htx, hch⟩, hdq, ⟨lq, kq, lys, ys, hsx, hfl, hls, hl0, hyc, hkx⟩, hhi, hnd, hR⟩ := id hW
  obtain ⟨rsi, rff, rwd, rtl, rtx, rsh, rhi, rhl⟩ := id hR
  obtain ⟨rcl, rcr, rll, rlt, rkt, rkm, rks⟩ := rsh
  have hll := hls.len
  have hyl := hyc.len
  obtain ⟨lm, le0, ln0, lf, hlq, hle, hln, hlN, hlx⟩ := id hfl
  have hxw := hl0
  obtain ⟨mw, fw, law, lew, lzw, ltw, lnw, lcw, lxw, lqw⟩ := hxw
  have hcl := hyc.cl lxw
  refine z_iload_n (pc := 0) (j := 1) C dX1_removeChord_0 rfl rfl ?_
  refine z_aload_n (pc := 1) (j := 0) C dX1_removeChord_1 rfl rfl ?_
  refine z_getfield (pc := 2) (v := .ref A.cu.s) C in_X1 rfl 5 (by decide) q282 (fun _ z => z) hc0 rfl dX1_removeChord_2 ?_
  refine z_getfieldN (pc := 5) (v := .ref A.cu.cq) C in_X2 rfl 1 (by decide) q172 (fun _ z => z) hsx rfl dX1_removeChord_5 ?_
  refine z_callV (pc := 8) (n := 0) (kc' := (3 + bLC 0 σ.sh.ls.length + bLC 0 σ.sh.cs.length)) (ks' := (9 + bLS 0 σ.sh.ls.length + bLS 0 σ.sh.cs.length)) C (ct_L_size C.t law) (lw_V q995 q367 q368 q68 q369) (by decide +kernel) ⟨by decide, by decide⟩ law rfl rfl rfl (Nat.le_of_ble_eq_true rfl) dX1_removeChord_8 (by omega) (by omega) (zpk (st' := [.int (iI ((ys.length : Nat) : Int)), .int (iI i)]) rfl ?_) zrx
  refine z_callS (pc := 11) (n := 2) (kc' := (3 + bLC 0 σ.sh.ls.length + bLC 0 σ.sh.cs.length)) (ks' := (9 + bLS 0 σ.sh.ls.length + bLS 0 σ.sh.cs.length)) C (ct_chkI C.t (i := i) (n := ((ys.length : Nat) : Int)) (by omega) (by omega)) (lw_S q1695 q1696 q63 q1697) (by decide +kernel) ⟨by decide, by decide⟩ rfl rfl (Nat.le_of_ble_eq_true rfl) dX1_removeChord_11 (by omega) (by omega) (zpk (st' := []) rfl ?_) zrx
  refine z_aload_n (pc := 14) (j := 0) C dX1_removeChord_14 rfl rfl ?_
  refine z_callV (pc := 15) (n := 0) (kc' := ((3 + bLC 0 σ.sh.ls.length + bLC 0 σ.sh.cs.length) - (3 + bLC 0 σ.sh.ls.length + bLC 0 σ.sh.cs.length))) (ks' := ((9 + bLS 0 σ.sh.ls.length + bLS 0 σ.sh.cs.length) - (9 + bLS 0 σ.sh.ls.length + bLS 0 σ.sh.cs.length))) C (op_keep C.t hW) (lw_V q931 q933 qs10 q63 q934) (by decide +kernel) ⟨by decide, by decide⟩ hc0 rfl rfl rfl (Nat.le_of_ble_eq_true rfl) dX1_removeChord_15 (by omega) (by omega) (zrk fun w h1 hp => ?_) zrx
  obtain ⟨rfl, A_2, hR_2, hcu_2⟩ := hp
  have hW_2 := hR_2.1
  have hk_2 := hR_2.2.1
  obtain ⟨⟨tf, hc0, htx, hch⟩, hdq, ⟨lq, kq, lys, ys, hsx, hfl, hls, hl0, hyc, hkx⟩, hhi, hnd, hR⟩ := id hW_2
  obtain ⟨rsi, rff, rwd, rtl, rtx, rsh, rhi, rhl⟩ := id hR
  obtain ⟨rcl, rcr, rll, rlt, rkt, rkm, rks⟩ := rsh
  have hll := hls.len
  have hyl := hyc.len
  obtain ⟨lm, le0, ln0, lf, hlq, hle, hln, hlN, hlx⟩ := id hfl
  have hxw := hl0
  obtain ⟨mw, fw, law, lew, lzw, ltw, lnw, lcw, lxw, lqw⟩ := hxw
  have hcl := hyc.cl lxw
  show Z X h1 ((3 + bLC 0 σ.sh.ls.length + bLC 0 σ.sh.cs.length) - (3 + bLC 0 σ.sh.ls.length + bLC 0 σ.sh.cs.length)) ((9 + bLS 0 σ.sh.ls.length + bLS 0 σ.sh.cs.length) - (9 + bLS 0 σ.sh.ls.length + bLS 0 σ.sh.cs.length)) [(0, .ref c), (1, .int (iI i))] 18 []
  have hi2 : 0 ≤ i ∧ i < (σ.kp.sh.cs.length : Nat) := hi
  refine z_aload_n (pc := 18) (j := 0) C dX1_removeChord_18 rfl rfl ?_
  refine z_getfield (pc := 19) (v := .ref A_2.cu.s) C in_X1 rfl 5 (by decide) q282 (fun _ z => z) hc0 rfl dX1_removeChord_19 ?_
  refine z_getfieldN (pc := 22) (v := .ref A_2.cu.cq) C in_X2 rfl 1 (by decide) q172 (fun _ z => z) hsx rfl dX1_removeChord_22 ?_
  refine z_iload_n (pc := 25) (j := 1) C dX1_removeChord_25 rfl rfl ?_
  refine z_callV (pc := 26) (n := 1) (kc' := ((3 + bLC 0 σ.sh.ls.length + bLC 0 σ.sh.cs.length) - (3 + bLC 0 σ.sh.ls.length + bLC 0 σ.sh.cs.length))) (ks' := ((9 + bLS 0 σ.sh.ls.length + bLS 0 σ.sh.cs.length) - (9 + bLS 0 σ.sh.ls.length + bLS 0 σ.sh.cs.length))) C (ct_L_remove C.t (lAt.mk (cap := A_2.cu.cap) rfl rfl rfl law lew lzw ltw lnw lcw lxw lqw) (i := i) (by omega)) (lw_V q1839 q1840 q1841 q68 q1842) (by decide +kernel) ⟨by decide, by decide⟩ law rfl rfl rfl (Nat.le_of_ble_eq_true rfl) dX1_removeChord_26 (by omega) (by omega) (zrk fun w h3 hp => ?_) zrx
  obtain ⟨o6, hoo6, rfl, hl4, k5⟩ := hp
  have kh3 : zkeep h1 h3 [A_2.cu.cq, A_2.cu.e] := zkeep.loc zkeep.rf k5 (zall_cons (Or.inl (Or.symm (Or.inl (by simp)))) (zall_cons (Or.inl (Or.symm (Or.inl (by simp)))) zall_nil))
  show Z X h3 ((3 + bLC 0 σ.sh.ls.length + bLC 0 σ.sh.cs.length) - (3 + bLC 0 σ.sh.ls.length + bLC 0 σ.sh.cs.length)) ((9 + bLS 0 σ.sh.ls.length + bLS 0 σ.sh.cs.length) - (9 + bLS 0 σ.sh.ls.length + bLS 0 σ.sh.cs.length)) [(0, .ref c), (1, .int (iI i))] 29 [.ref o6]
  refine z_pop (pc := 29) C dX1_removeChord_29 rfl ?_
  have hx_7 := hl4
  obtain ⟨m_7, f_7, la_7, le_7, lz_7, lt_7, ln_7, lc_7, lx_7, lq_7⟩ := hx_7
  refine z_aload_n (pc := 30) (j := 0) C dX1_removeChord_30 rfl rfl ?_
  refine z_getfield (pc := 31) (v := .ref A_2.cu.s) C in_X1 rfl 5 (by decide) q282 (fun _ z => z) (kh3.n hc0 (List.not_mem_cons_of_ne_of_not_mem (zneC hc0 law (by decide)) (List.not_mem_cons_of_ne_of_not_mem (zneA hc0 lew) List.not_mem_nil))) rfl dX1_removeChord_31 ?_
  refine z_getfieldN (pc := 34) (v := .ref A_2.cu.cq) C in_X2 rfl 1 (by decide) q172 (fun _ z => z) (kh3.n hsx (List.not_mem_cons_of_ne_of_not_mem (zneC hsx law (by decide)) (List.not_mem_cons_of_ne_of_not_mem (zneA hsx lew) List.not_mem_nil))) rfl dX1_removeChord_34 ?_
  refine z_callV (pc := 37) (n := 0) (kc' := ((3 + bLC 0 σ.sh.ls.length + bLC 0 σ.sh.cs.length) - (3 + bLC 0 σ.sh.ls.length + bLC 0 σ.sh.cs.length))) (ks' := ((9 + bLS 0 σ.sh.ls.length + bLS 0 σ.sh.cs.length) - (9 + bLS 0 σ.sh.ls.length + bLS 0 σ.sh.cs.length))) C (ct_L_size C.t la_7) (lw_V q995 q367 q368 q68 q369) (by decide +kernel) ⟨by decide, by decide⟩ la_7 rfl rfl rfl (Nat.le_of_ble_eq_true rfl) dX1_removeChord_37 (by omega) (by omega) (zpk (st' := [.int (iI (((ys.eraseIdx i.toNat).length : Nat) : Int))]) rfl ?_) zrx
  have hre : (((ys.eraseIdx i.toNat).length : Nat) : Int) = ((σ.kp.sh.cs.length : Nat) : Int) - 1 := by rw [List.length_eraseIdx, if_pos (by omega)]; omega
  exact z_ireturn (pc := 40) C (by rw [hXp]; exact ⟨_, rfl, (by rw [hre]; rfl), _, wR.trans hR_2 (csW.upSh hW_2 (x := A_2.cu) (S := (σ.kp.sh.ls, σ.kp.sh.cs.eraseIdx i.toNat, σ.kp.sh.t, σ.kp.sh.m)) (zkeep_fp hW_2.2.2.1 (kh3.mono (fun q hq => List.mem_cons_of_mem _ hq))) ⟨lq, kq, lys, ys.eraseIdx i.toNat, (kh3.n hsx (List.not_mem_cons_of_ne_of_not_mem (zneC hsx law (by decide)) (List.not_mem_cons_of_ne_of_not_mem (zneA hsx lew) List.not_mem_nil))), hfl.keep kh3, hls.keep kh3, hl4, (hyc.keep kh3).rm, (kh3.f hkx)⟩ rfl (fun _ h1 => Or.inl h1) ⟨Nat.le_trans (List.length_eraseIdx_le _ _) rcl, fun c hc => rcr c (List.mem_of_mem_eraseIdx hc), rll, rlt, rkt, rkm, rks⟩)⟩) dX1_removeChord_40
set_option maxHeartbeats 4000000 in
theorem op_removeChord_b {l : Launch} (hl : l.stackTraces = false) {Γ : zCx} {h : zH} {c : Nat} {A : zWA} {σ : zSt} (hW : csW Γ h c A σ) {i : Int} (hi : -2147483648 ≤ i ∧ i ≤ 2147483647) (hb : ¬ (0 ≤ i ∧ i < (σ.sh.cs.length : Nat)))  : zMet l yX1_removeChord (ws_ yX1_removeChord cX1_removeChord 2 (some .int)) ({ frames := 7, cells := 1, slots := 6, locals := 102 }) Γ h [.ref c, .int (iI i)] (zthp h "java/lang/IndexOutOfBoundsException") 1 6 := by
  refine zMet.of (cc := cX1_removeChord) hl (plainFor_of_name (by decide +kernel)) (Nat.le_of_ble_eq_true rfl) ?_
  intro X hXl hXΓ hXp C hnm hnL
  have C : zC X cX1_removeChord RX1 (some .int) 7 102 [] := C
  have hnL : X.2.1.2.2.2.2 = 2 := hnL
  subst hXl hXΓ
  show Z X h 1 6 [(0, .ref c), (1, .int (iI i))] 0 []
  obtain ⟨⟨tf, hc0, htx, hch⟩, hdq, ⟨lq, kq, lys, ys, hsx, hfl, hls, hl0, hyc, hkx⟩, hhi, hnd, hR⟩ := id hW
  obtain ⟨rsi, rff, rwd, rtl, rtx, rsh, rhi, rhl⟩ := id hR
  obtain ⟨rcl, rcr, rll, rlt, rkt, rkm, rks⟩ := rsh
  have hll := hls.len
  have hyl := hyc.len
  obtain ⟨lm, le0, ln0, lf, hlq, hle, hln, hlN, hlx⟩ := id hfl
  have hxw := hl0
  obtain ⟨mw, fw, law, lew, lzw, ltw, lnw, lcw, lxw, lqw⟩ := hxw
  have hcl := hyc.cl lxw
  refine z_iload_n (pc := 0) (j := 1) C dX1_removeChord_0 rfl rfl ?_
  refine z_aload_n (pc := 1) (j := 0) C dX1_removeChord_1 rfl rfl ?_
  refine z_getfield (pc := 2) (v := .ref A.cu.s) C in_X1 rfl 5 (by decide) q282 (fun _ z => z) hc0 rfl dX1_removeChord_2 ?_
  refine z_getfieldN (pc := 5) (v := .ref A.cu.cq) C in_X2 rfl 1 (by decide) q172 (fun _ z => z) hsx rfl dX1_removeChord_5 ?_
  refine z_callV (pc := 8) (n := 0) (kc' := 1) (ks' := 6) C (ct_L_size C.t law) (lw_V q995 q367 q368 q68 q369) (by decide +kernel) ⟨by decide, by decide⟩ law rfl rfl rfl (Nat.le_of_ble_eq_true rfl) dX1_removeChord_8 (by omega) (by omega) (zpk (st' := [.int (iI ((ys.length : Nat) : Int)), .int (iI i)]) rfl ?_) zrx
  refine z_callS (pc := 11) (n := 2) (kc' := 0) (ks' := 0) C (ct_chkIb C.t (i := i) (n := ((ys.length : Nat) : Int)) (by omega) (by omega)) (lw_S q1695 q1696 q63 q1697) (by decide +kernel) ⟨by decide, by decide⟩ rfl rfl (Nat.le_of_ble_eq_true rfl) dX1_removeChord_11 (by omega) (by omega) zthk (zthx fun q2 h1 hp => ?_)
  rw [hp]
  exact zx_out C (fun x hx => nomatch hx) (by rw [hXp]; exact ⟨_, rfl, rfl⟩)
set_option maxHeartbeats 4000000 in
theorem op_moveChord {l : Launch} (hl : l.stackTraces = false) {Γ : zCx} {h : zH} {c : Nat} {A : zWA} {σ : zSt} (hW : csW Γ h c A σ) {i : Int} {x : zCh} (hi : 0 ≤ i) (hx : σ.sh.cs[i.toNat]? = some x) {t : List Int} (ht : σ.sh.ls[x.1.toNat]? = some t) {k : Int} (hk : 0 ≤ k ∧ k ≤ (t.length : Nat))  : zMet l yX1_moveChord (ws_ yX1_moveChord cX1_moveChord 4 (some .int)) ({ frames := 9, cells := (1 + (3 + bLC 0 σ.sh.ls.length + bLC 0 σ.sh.cs.length)), slots := (5 + (9 + bLS 0 σ.sh.ls.length + bLS 0 σ.sh.cs.length)), locals := 194 }) Γ h [.ref c, .int (iI i), .int (iI k)] (zrt (fun w h' => w = some (.int (iI (ipl ((x.1, k, x.2.2.1, x.2.2.2.1, x.2.2.2.2) : zCh) (σ.sh.cs.eraseIdx i.toNat)))) ∧ ∃ A', wR Γ h c A h' A' (σ.kp.tx, σ.kp.si, σ.kp.fl, σ.kp.wd, (σ.kp.sh.ls, zins ((x.1, k, x.2.2.1, x.2.2.2.1, x.2.2.2.2) : zCh) (σ.kp.sh.cs.eraseIdx i.toNat), σ.kp.sh.t, σ.kp.sh.m), σ.kp.hi))) (1 + (3 + bLC 0 σ.sh.ls.length + bLC 0 σ.sh.cs.length)) (5 + (9 + bLS 0 σ.sh.ls.length + bLS 0 σ.sh.cs.length)) := by
  refine zMet.of (cc := cX1_moveChord) hl (plainFor_of_name (by decide +kernel)) (Nat.le_of_ble_eq_true rfl) ?_
  intro X hXl hXΓ hXp C hnm hnL
  have C : zC X cX1_moveChord RX1 (some .int) 9 194 [] := C
  have hnL : X.2.1.2.2.2.2 = 4 := hnL
  subst hXl hXΓ
  show Z X h (1 + (3 + bLC 0 σ.sh.ls.length + bLC 0 σ.sh.cs.length)) (5 + (9 + bLS 0 σ.sh.ls.length + bLS 0 σ.sh.cs.length)) [(0, .ref c), (1, .int (iI i)), (2, .int (iI k))] 0 []
  obtain ⟨⟨tf, hc0, htx, hch⟩, hdq, ⟨lq, kq, lys, ys, hsx, hfl, hls, hl0, hyc, hkx⟩, hhi, hnd, hR⟩ := id hW
  obtain ⟨rsi, rff, rwd, rtl, rtx, rsh, rhi, rhl⟩ := id hR
  obtain ⟨rcl, rcr, rll, rlt, rkt, rkm, rks⟩ := rsh
  have hll := hls.len
  have hyl := hyc.len
  obtain ⟨lm, le0, ln0, lf, hlq, hle, hln, hlN, hlx⟩ := id hfl
  have hxw := hl0
  obtain ⟨mw, fw, law, lew, lzw, ltw, lnw, lcw, lxw, lqw⟩ := hxw
  have hcl := hyc.cl lxw
  have hxr0 := rcr _ (List.mem_of_getElem? hx)
  have htl := rlt _ (List.mem_of_getElem? ht)
  refine z_aload_n (pc := 0) (j := 0) C dX1_moveChord_0 rfl rfl ?_
  refine z_iload_n (pc := 1) (j := 1) C dX1_moveChord_1 rfl rfl ?_
  refine z_callV (pc := 2) (n := 1) (kc' := (1 + (3 + bLC 0 σ.sh.ls.length + bLC 0 σ.sh.cs.length))) (ks' := (5 + (9 + bLS 0 σ.sh.ls.length + bLS 0 σ.sh.cs.length))) C (op_chord C.t hW (i := i) (by omega) hx) (lw_V q1727 q1729 qs16 q63 q1730) (by decide +kernel) ⟨by decide, by decide⟩ hc0 rfl rfl rfl (Nat.le_of_ble_eq_true rfl) dX1_moveChord_2 (by omega) (by omega) (zrk fun w h2 hp => ?_) zrx
  obtain ⟨q1, rfl, hs3, eh2⟩ := hp
  rw [eh2]
  have xrq1 := rcr _ (List.mem_of_getElem? hx)
  obtain ⟨xr1q1, xr2q1, xr3q1, xr4q1, xr5q1⟩ := id xrq1
  show Z X h (1 + (3 + bLC 0 σ.sh.ls.length + bLC 0 σ.sh.cs.length)) (5 + (9 + bLS 0 σ.sh.ls.length + bLS 0 σ.sh.cs.length)) [(0, .ref c), (1, .int (iI i)), (2, .int (iI k))] 5 [.ref q1]
  refine z_astore_n (pc := 5) (L' := [(3, .ref q1), (0, .ref c), (1, .int (iI i)), (2, .int (iI k))]) C dX1_moveChord_5 rfl (by rw [hnL]; decide) rfl ?_
  refine z_iload_n (pc := 6) (j := 3) C dX1_moveChord_6 rfl rfl ?_
  refine z_aload_n (pc := 7) (j := 1) C dX1_moveChord_7 rfl rfl ?_
  refine z_aload_n (pc := 8) (j := 0) C dX1_moveChord_8 rfl rfl ?_
  refine z_getfieldN (pc := 9) (v := .int (iI x.1)) C in_X7 rfl 0 (by decide) q593 (fun _ z => z) hs3 rfl dX1_moveChord_9 ?_
  refine z_callV (pc := 12) (n := 1) (kc' := (1 + (3 + bLC 0 σ.sh.ls.length + bLC 0 σ.sh.cs.length))) (ks' := (5 + (9 + bLS 0 σ.sh.ls.length + bLS 0 σ.sh.cs.length))) C (op_line C.t hW (i := x.1) (by omega) ht) (lw_V q1691 q1693 qs15 q63 q1694) (by decide +kernel) ⟨by decide, by decide⟩ hc0 rfl rfl rfl (Nat.le_of_ble_eq_true rfl) dX1_moveChord_12 (by omega) (by omega) (zrk fun w h5 hp => ?_) zrx
  obtain ⟨q4, rfl, hs6, eh5⟩ := hp
  rw [eh5]
  show Z X h (1 + (3 + bLC 0 σ.sh.ls.length + bLC 0 σ.sh.cs.length)) (5 + (9 + bLS 0 σ.sh.ls.length + bLS 0 σ.sh.cs.length)) [(3, .ref q1), (0, .ref c), (1, .int (iI i)), (2, .int (iI k))] 15 [.ref q4, .int (iI k)]
  obtain ⟨hl_7, v_7, x_7, y_7, g_7, h1_7, h2_7, h3_7, h4_7⟩ := id (hs6)
  have h1_7 : h (q4) = some (false, .inr (13, [.ref v_7, .int (iI 0), .int x_7, .int y_7])) := h1_7
  refine z_callV (pc := 15) (n := 0) (kc' := (1 + (3 + bLC 0 σ.sh.ls.length + bLC 0 σ.sh.cs.length))) (ks' := (5 + (9 + bLS 0 σ.sh.ls.length + bLS 0 σ.sh.cs.length))) C (ct_S_length C.t hs6) (lw_V q1053 q468 q469 q83 q470) (by decide +kernel) ⟨by decide, by decide⟩ h1_7 rfl rfl rfl (Nat.le_of_ble_eq_true rfl) dX1_moveChord_15 (by omega) (by omega) (zpk (st' := [.int (iI ((t.length : Nat) : Int)), .int (iI k)]) rfl ?_) zrx
  refine z_iconst (pc := 18) C dX1_moveChord_18 ?_
  refine z_iadd (pc := 19) C dX1_moveChord_19 ?_
  refine z_callS (pc := 20) (n := 2) (kc' := (1 + (3 + bLC 0 σ.sh.ls.length + bLC 0 σ.sh.cs.length))) (ks' := (5 + (9 + bLS 0 σ.sh.ls.length + bLS 0 σ.sh.cs.length))) C (ct_chkI C.t (i := k) (n := ((t.length : Nat) : Int) + 1) (by omega) (by omega)) (lw_S q1695 q1696 q63 q1697) (by decide +kernel) ⟨by decide, by decide⟩ rfl rfl (Nat.le_of_ble_eq_true rfl) dX1_moveChord_20 (by omega) (by omega) (zpk (st' := []) rfl ?_) zrx
  refine z_aload_n (pc := 23) (j := 1) C dX1_moveChord_23 rfl rfl ?_
  refine z_callV (pc := 24) (n := 0) (kc' := ((1 + (3 + bLC 0 σ.sh.ls.length + bLC 0 σ.sh.cs.length)) - (3 + bLC 0 σ.sh.ls.length + bLC 0 σ.sh.cs.length))) (ks' := ((5 + (9 + bLS 0 σ.sh.ls.length + bLS 0 σ.sh.cs.length)) - (9 + bLS 0 σ.sh.ls.length + bLS 0 σ.sh.cs.length))) C (op_keep C.t hW) (lw_V q931 q933 qs10 q63 q934) (by decide +kernel) ⟨by decide, by decide⟩ hc0 rfl rfl rfl (Nat.le_of_ble_eq_true rfl) dX1_moveChord_24 (by omega) (by omega) (zrk fun w h8 hp => ?_) zrx
  obtain ⟨rfl, A_9, hR_9, hcu_9⟩ := hp
  have hW_9 := hR_9.1
  have hk_9 := hR_9.2.1
  have fz10 : h8 q1 = some (false, .inr (6, [.int (iI x.1), .int (iI x.2.1), .int (iI x.2.2.1), .int (iI x.2.2.2.1), .int (iI x.2.2.2.2)])) := hk_9.f hs3
  obtain ⟨⟨tf, hc0, htx, hch⟩, hdq, ⟨lq, kq, lys, ys, hsx, hfl, hls, hl0, hyc, hkx⟩, hhi, hnd, hR⟩ := id hW_9
  obtain ⟨rsi, rff, rwd, rtl, rtx, rsh, rhi, rhl⟩ := id hR
  obtain ⟨rcl, rcr, rll, rlt, rkt, rkm, rks⟩ := rsh
  have hll := hls.len
  have hyl := hyc.len
  obtain ⟨lm, le0, ln0, lf, hlq, hle, hln, hlN, hlx⟩ := id hfl
  have hxw := hl0
  obtain ⟨mw, fw, law, lew, lzw, ltw, lnw, lcw, lxw, lqw⟩ := hxw
  have hcl := hyc.cl lxw
  show Z X h8 ((1 + (3 + bLC 0 σ.sh.ls.length + bLC 0 σ.sh.cs.length)) - (3 + bLC 0 σ.sh.ls.length + bLC 0 σ.sh.cs.length)) ((5 + (9 + bLS 0 σ.sh.ls.length + bLS 0 σ.sh.cs.length)) - (9 + bLS 0 σ.sh.ls.length + bLS 0 σ.sh.cs.length)) [(3, .ref q1), (0, .ref c), (1, .int (iI i)), (2, .int (iI k))] 27 []
  have hi2 : 0 ≤ i ∧ i < (σ.kp.sh.cs.length : Nat) := ⟨hi, by have := (List.getElem?_eq_some_iff.mp hx).1; show i < (σ.sh.cs.length : Nat); omega⟩
  obtain ⟨xr10, xr20, xr30, xr40, xr50⟩ := id hxr0
  have hel : (ys.eraseIdx i.toNat).length + 1 = ys.length := by rw [List.length_eraseIdx, if_pos (by omega)]; omega
  have hlC : lC A_9.cu.cap ((ys.eraseIdx i.toNat).length + 1) = 0 := by rw [lC, if_pos (by omega)]
  have hlS : lS A_9.cu.cap ((ys.eraseIdx i.toNat).length + 1) = 0 := by rw [lS, if_pos (by omega)]
  refine z_aload_n (pc := 27) (j := 1) C dX1_moveChord_27 rfl rfl ?_
  refine z_getfield (pc := 28) (v := .ref A_9.cu.s) C in_X1 rfl 5 (by decide) q282 (fun _ z => z) hc0 rfl dX1_moveChord_28 ?_
  refine z_getfieldN (pc := 31) (v := .ref A_9.cu.cq) C in_X2 rfl 1 (by decide) q172 (fun _ z => z) hsx rfl dX1_moveChord_31 ?_
  refine z_iload_n (pc := 34) (j := 2) C dX1_moveChord_34 rfl rfl ?_
  refine z_callV (pc := 35) (n := 1) (kc' := ((1 + (3 + bLC 0 σ.sh.ls.length + bLC 0 σ.sh.cs.length)) - (3 + bLC 0 σ.sh.ls.length + bLC 0 σ.sh.cs.length))) (ks' := ((5 + (9 + bLS 0 σ.sh.ls.length + bLS 0 σ.sh.cs.length)) - (9 + bLS 0 σ.sh.ls.length + bLS 0 σ.sh.cs.length))) C (ct_L_remove C.t (lAt.mk (cap := A_9.cu.cap) rfl rfl rfl law lew lzw ltw lnw lcw lxw lqw) (i := i) (by omega)) (lw_V q1839 q1840 q1841 q68 q1842) (by decide +kernel) ⟨by decide, by decide⟩ law rfl rfl rfl (Nat.le_of_ble_eq_true rfl) dX1_moveChord_35 (by omega) (by omega) (zrk fun w h11 hp => ?_) zrx
  obtain ⟨o14, hoo14, rfl, hl12, k13⟩ := hp
  have kh11 : zkeep h8 h11 [A_9.cu.cq, A_9.cu.e] := zkeep.loc zkeep.rf k13 (zall_cons (Or.inl (Or.symm (Or.inl (by simp)))) (zall_cons (Or.inl (Or.symm (Or.inl (by simp)))) zall_nil))
  have fh11_1 : h11 q1 = some (false, .inr (6, [.int (iI x.1), .int (iI x.2.1), .int (iI x.2.2.1), .int (iI x.2.2.2.1), .int (iI x.2.2.2.2)])) := k13.f fz10
  show Z X h11 ((1 + (3 + bLC 0 σ.sh.ls.length + bLC 0 σ.sh.cs.length)) - (3 + bLC 0 σ.sh.ls.length + bLC 0 σ.sh.cs.length)) ((5 + (9 + bLS 0 σ.sh.ls.length + bLS 0 σ.sh.cs.length)) - (9 + bLS 0 σ.sh.ls.length + bLS 0 σ.sh.cs.length)) [(3, .ref q1), (0, .ref c), (1, .int (iI i)), (2, .int (iI k))] 38 [.ref o14]
  refine z_pop (pc := 38) C dX1_moveChord_38 rfl ?_
  have hx_15 := hl12
  obtain ⟨m_15, f_15, la_15, le_15, lz_15, lt_15, ln_15, lc_15, lx_15, lq_15⟩ := hx_15
  refine z_aload_n (pc := 39) (j := 1) C dX1_moveChord_39 rfl rfl ?_
  refine z_getfield (pc := 40) (v := .ref A_9.cu.s) C in_X1 rfl 5 (by decide) q282 (fun _ z => z) (kh11.n hc0 (List.not_mem_cons_of_ne_of_not_mem (zneC hc0 law (by decide)) (List.not_mem_cons_of_ne_of_not_mem (zneA hc0 lew) List.not_mem_nil))) rfl dX1_moveChord_40 ?_
  refine z_aload_n (pc := 43) (j := 0) C dX1_moveChord_43 rfl rfl ?_
  refine z_aload_n (pc := 44) (j := 0) C dX1_moveChord_44 rfl rfl ?_
  refine z_getfieldN (pc := 45) (v := .int (iI x.1)) C in_X7 rfl 0 (by decide) q593 (fun _ z => z) fh11_1 rfl dX1_moveChord_45 ?_
  refine z_iload_n (pc := 48) (j := 3) C dX1_moveChord_48 rfl rfl ?_
  refine z_callV (pc := 49) (n := 2) (kc' := (((1 + (3 + bLC 0 σ.sh.ls.length + bLC 0 σ.sh.cs.length)) - (3 + bLC 0 σ.sh.ls.length + bLC 0 σ.sh.cs.length)) - 1)) (ks' := (((5 + (9 + bLS 0 σ.sh.ls.length + bLS 0 σ.sh.cs.length)) - (9 + bLS 0 σ.sh.ls.length + bLS 0 σ.sh.cs.length)) - 5)) C (ct_C_at C.t (l0 := x.1) (c0 := k) fh11_1) (lw_V q1854 q1855 q1856 q89 q1857) (by decide +kernel) ⟨by decide, by decide⟩ fh11_1 rfl rfl rfl (Nat.le_of_ble_eq_true rfl) dX1_moveChord_49 (by omega) (by omega) (zrk fun w h17 hp => ?_) zrx
  obtain ⟨a16, rfl, fka16, fa16, k18⟩ := hp
  have na16 : h8 a16 = none := kh11.none0 fa16 (List.not_mem_cons_of_ne_of_not_mem (Ne.symm (zneF la_15 fa16)) (List.not_mem_cons_of_ne_of_not_mem (Ne.symm (zneF le_15 fa16)) List.not_mem_nil))
  have kh17 : zkeep h8 h17 [A_9.cu.cq, A_9.cu.e] := zkeep.loc kh11 k18 zall_nil
  have fh17_1 : h17 q1 = some (false, .inr (6, [.int (iI x.1), .int (iI x.2.1), .int (iI x.2.2.1), .int (iI x.2.2.2.1), .int (iI x.2.2.2.2)])) := k18.f fh11_1
  have fh17_2 : h17 A_9.cu.cq = some (true, .inr (10, [.int (iI m_15), .ref A_9.cu.e, .int (iI (((ys.eraseIdx i.toNat).length : Nat) : Int))])) := k18.n la_15 List.not_mem_nil
  have fh17_3 : h17 A_9.cu.e = some ((decide (A_9.cu.cap ≠ 0)), .inl ((.object "java/lang/Object"), A_9.cu.cap, f_15)) := k18.n le_15 List.not_mem_nil
  have ph17_1 : ∀ q ∈ ys.eraseIdx i.toNat, zel h17 q := zels.keep k18 lq_15
  show Z X h17 (((1 + (3 + bLC 0 σ.sh.ls.length + bLC 0 σ.sh.cs.length)) - (3 + bLC 0 σ.sh.ls.length + bLC 0 σ.sh.cs.length)) - 1) (((5 + (9 + bLS 0 σ.sh.ls.length + bLS 0 σ.sh.cs.length)) - (9 + bLS 0 σ.sh.ls.length + bLS 0 σ.sh.cs.length)) - 5) [(3, .ref q1), (0, .ref c), (1, .int (iI i)), (2, .int (iI k))] 52 [.ref a16, .ref A_9.cu.s]
  refine z_callV (pc := 52) (n := 1) (kc' := ((((1 + (3 + bLC 0 σ.sh.ls.length + bLC 0 σ.sh.cs.length)) - (3 + bLC 0 σ.sh.ls.length + bLC 0 σ.sh.cs.length)) - 1) - lC A_9.cu.cap ((ys.eraseIdx i.toNat).length + 1))) (ks' := ((((5 + (9 + bLS 0 σ.sh.ls.length + bLS 0 σ.sh.cs.length)) - (9 + bLS 0 σ.sh.ls.length + bLS 0 σ.sh.cs.length)) - 5) - lS A_9.cu.cap ((ys.eraseIdx i.toNat).length + 1))) C (ct_S_insert C.t (kh17.n hsx (List.not_mem_cons_of_ne_of_not_mem (zneC hsx law (by decide)) (List.not_mem_cons_of_ne_of_not_mem (zneA hsx lew) List.not_mem_nil))) (lAt.mk (cap := A_9.cu.cap) rfl rfl rfl fh17_2 fh17_3 lz_15 lt_15 ln_15 lc_15 lx_15 ph17_1) (((ycs.keep kh17 hyc)).rm) (fun c hc => rcr c (List.mem_of_mem_eraseIdx hc)) (Nat.le_trans (List.length_eraseIdx_le _ _) (by omega)) (c := ((x.1, k, x.2.2.1, x.2.2.2.1, x.2.2.2.2) : zCh)) fka16 ⟨xr10, ⟨by show (0 : Int) ≤ k; omega, by show k ≤ 300; omega⟩, xr30, xr40, xr50⟩) (lw_V q1803 q1804 q1805 q64 q1806) (by decide +kernel) ⟨by decide, by decide⟩ (kh17.n hsx (List.not_mem_cons_of_ne_of_not_mem (zneC hsx law (by decide)) (List.not_mem_cons_of_ne_of_not_mem (zneA hsx lew) List.not_mem_nil))) rfl rfl rfl (Nat.le_of_ble_eq_true rfl) dX1_moveChord_52 (by omega) (by omega) (zrk fun w h19 hp => ?_) zrx
  obtain ⟨rfl, e20, hl21, he22, k23⟩ := hp
  have de20 : e20 ∈ ([A_9.cu.cq, A_9.cu.e] : List Nat) ∨ h8 e20 = none := zmayL (Or.inl (Or.inl (by simp))) (lAt.mk (cap := A_9.cu.cap) rfl rfl rfl fh17_2 fh17_3 lz_15 lt_15 ln_15 lc_15 lx_15 ph17_1) hl21 (by have := lcap_ge (cap := A_9.cu.cap) (n := (ys.eraseIdx i.toNat).length + 1); omega) he22 kh17 k23
  have ge20 : e20 = A_9.cu.e ∨ h8 e20 = none := he22.imp_right (fun z => kh17.none0 z (List.not_mem_cons_of_ne_of_not_mem (Ne.symm (zneF fh17_2 z)) (List.not_mem_cons_of_ne_of_not_mem (Ne.symm (zneF fh17_3 z)) List.not_mem_nil)))
  have kh19 : zkeep h8 h19 [A_9.cu.cq, A_9.cu.e] := zkeep.loc kh17 k23 (zall_cons (Or.inl (Or.symm (Or.inl (by simp)))) (zall_cons (Or.inl (Or.symm (Or.inl (by simp)))) zall_nil))
  have fh19_1 : h19 q1 = some (false, .inr (6, [.int (iI x.1), .int (iI x.2.1), .int (iI x.2.2.1), .int (iI x.2.2.2.1), .int (iI x.2.2.2.2)])) := k23.f fh17_1
  have fh19_2 : h19 a16 = some (false, .inr (6, [.int (iI x.1), .int (iI k), .int (iI x.2.2.1), .int (iI x.2.2.2.1), .int (iI x.2.2.2.2)])) := k23.f fka16
  have ph19_1 : ∀ q ∈ ys.eraseIdx i.toNat, zel h19 q := zels.keep k23 ph17_1
  show Z X h19 ((((1 + (3 + bLC 0 σ.sh.ls.length + bLC 0 σ.sh.cs.length)) - (3 + bLC 0 σ.sh.ls.length + bLC 0 σ.sh.cs.length)) - 1) - lC A_9.cu.cap ((ys.eraseIdx i.toNat).length + 1)) ((((5 + (9 + bLS 0 σ.sh.ls.length + bLS 0 σ.sh.cs.length)) - (9 + bLS 0 σ.sh.ls.length + bLS 0 σ.sh.cs.length)) - 5) - lS A_9.cu.cap ((ys.eraseIdx i.toNat).length + 1)) [(3, .ref q1), (0, .ref c), (1, .int (iI i)), (2, .int (iI k))] 55 [.int (iI (ipl ((x.1, k, x.2.2.1, x.2.2.2.1, x.2.2.2.2) : zCh) (σ.kp.sh.cs.eraseIdx i.toNat)))]
  exact z_ireturn (pc := 55) C (by rw [hXp]; exact ⟨_, rfl, rfl, _, wR.trans hR_9 (csW.upSh hW_9 (x := ((A_9.cu.s, A_9.cu.cq, e20, lcap A_9.cu.cap ((ys.eraseIdx i.toNat).length + 1)) : zSA)) (S := (σ.kp.sh.ls, zins ((x.1, k, x.2.2.1, x.2.2.2.1, x.2.2.2.2) : zCh) (σ.kp.sh.cs.eraseIdx i.toNat), σ.kp.sh.t, σ.kp.sh.m)) (zkeep_fp hW_9.2.2.1 (kh19.mono (fun q hq => List.mem_cons_of_mem _ hq))) ⟨lq, kq, lys, (ys.eraseIdx i.toNat).take (ipl ((x.1, k, x.2.2.1, x.2.2.2.1, x.2.2.2.2) : zCh) (σ.kp.sh.cs.eraseIdx i.toNat)).toNat ++ a16 :: (ys.eraseIdx i.toNat).drop (ipl ((x.1, k, x.2.2.1, x.2.2.2.1, x.2.2.2.2) : zCh) (σ.kp.sh.cs.eraseIdx i.toNat)).toNat, (kh19.n hsx (List.not_mem_cons_of_ne_of_not_mem (zneC hsx law (by decide)) (List.not_mem_cons_of_ne_of_not_mem (zneA hsx lew) List.not_mem_nil))), hfl.keep kh19, hls.keep kh19, hl21, ((hyc.keep kh19).rm.ins (c := ((x.1, k, x.2.2.1, x.2.2.2.1, x.2.2.2.2) : zCh)) fh19_2), (kh19.f hkx)⟩ rfl (fp_ins hW_9.2.2.1 de20 hl0 kh19 hl21) ⟨by show (zins ((x.1, k, x.2.2.1, x.2.2.2.1, x.2.2.2.2) : zCh) (σ.kp.sh.cs.eraseIdx i.toNat)).length ≤ 40; rw [zins_l, List.length_eraseIdx, if_pos (by omega)]; omega, fun c hc => (zins_m hc).elim (fun e => e ▸ ⟨xr10, ⟨by show (0 : Int) ≤ k; omega, by show k ≤ 300; omega⟩, xr30, xr40, xr50⟩) (fun hc => rcr c (List.mem_of_mem_eraseIdx hc)), rll, rlt, rkt, rkm, rks⟩)⟩) dX1_moveChord_55
set_option maxHeartbeats 4000000 in
theorem op_moveChord_b1 {l : Launch} (hl : l.stackTraces = false) {Γ : zCx} {h : zH} {c : Nat} {A : zWA} {σ : zSt} (hW : csW Γ h c A σ) {i : Int} (hi : -2147483648 ≤ i ∧ i ≤ 2147483647) (hb : ¬ (0 ≤ i ∧ i < (σ.sh.cs.length : Nat))) {k : Int}  : zMet l yX1_moveChord (ws_ yX1_moveChord cX1_moveChord 4 (some .int)) ({ frames := 8, cells := 1, slots := 6, locals := 123 }) Γ h [.ref c, .int (iI i), .int (iI k)] (zthp h "java/lang/IndexOutOfBoundsException") 1 6 := by
  refine zMet.of (cc := cX1_moveChord) hl (plainFor_of_name (by decide +kernel)) (Nat.le_of_ble_eq_true rfl) ?_
  intro X hXl hXΓ hXp C hnm hnL
  have C : zC X cX1_moveChord RX1 (some .int) 8 123 [] := C
  have hnL : X.2.1.2.2.2.2 = 4 := hnL
  subst hXl hXΓ
  show Z X h 1 6 [(0, .ref c), (1, .int (iI i)), (2, .int (iI k))] 0 []
  obtain ⟨⟨tf, hc0, htx, hch⟩, hdq, ⟨lq, kq, lys, ys, hsx, hfl, hls, hl0, hyc, hkx⟩, hhi, hnd, hR⟩ := id hW
  obtain ⟨rsi, rff, rwd, rtl, rtx, rsh, rhi, rhl⟩ := id hR
  obtain ⟨rcl, rcr, rll, rlt, rkt, rkm, rks⟩ := rsh
  have hll := hls.len
  have hyl := hyc.len
  obtain ⟨lm, le0, ln0, lf, hlq, hle, hln, hlN, hlx⟩ := id hfl
  have hxw := hl0
  obtain ⟨mw, fw, law, lew, lzw, ltw, lnw, lcw, lxw, lqw⟩ := hxw
  have hcl := hyc.cl lxw
  refine z_aload_n (pc := 0) (j := 0) C dX1_moveChord_0 rfl rfl ?_
  refine z_iload_n (pc := 1) (j := 1) C dX1_moveChord_1 rfl rfl ?_
  refine z_callV (pc := 2) (n := 1) (kc' := 0) (ks' := 0) C (op_chord_b C.t hW (i := i) (by omega) (by omega)) (lw_V q1727 q1729 qs16 q63 q1730) (by decide +kernel) ⟨by decide, by decide⟩ hc0 rfl rfl rfl (Nat.le_of_ble_eq_true rfl) dX1_moveChord_2 (by omega) (by omega) zthk (zthx fun q2 h1 hp => ?_)
  rw [hp]
  exact zx_out C (fun x hx => nomatch hx) (by rw [hXp]; exact ⟨_, rfl, rfl⟩)
set_option maxHeartbeats 4000000 in
theorem op_moveChord_b2 {l : Launch} (hl : l.stackTraces = false) {Γ : zCx} {h : zH} {c : Nat} {A : zWA} {σ : zSt} (hW : csW Γ h c A σ) {i : Int} {x : zCh} (hi : 0 ≤ i) (hx : σ.sh.cs[i.toNat]? = some x) (hb : ¬ (0 ≤ x.1 ∧ x.1 < (σ.sh.ls.length : Nat))) {k : Int}  : zMet l yX1_moveChord (ws_ yX1_moveChord cX1_moveChord 4 (some .int)) ({ frames := 8, cells := 1, slots := 6, locals := 123 }) Γ h [.ref c, .int (iI i), .int (iI k)] (zthp h "java/lang/IndexOutOfBoundsException") 1 6 := by
  refine zMet.of (cc := cX1_moveChord) hl (plainFor_of_name (by decide +kernel)) (Nat.le_of_ble_eq_true rfl) ?_
  intro X hXl hXΓ hXp C hnm hnL
  have C : zC X cX1_moveChord RX1 (some .int) 8 123 [] := C
  have hnL : X.2.1.2.2.2.2 = 4 := hnL
  subst hXl hXΓ
  show Z X h 1 6 [(0, .ref c), (1, .int (iI i)), (2, .int (iI k))] 0 []
  obtain ⟨⟨tf, hc0, htx, hch⟩, hdq, ⟨lq, kq, lys, ys, hsx, hfl, hls, hl0, hyc, hkx⟩, hhi, hnd, hR⟩ := id hW
  obtain ⟨rsi, rff, rwd, rtl, rtx, rsh, rhi, rhl⟩ := id hR
  obtain ⟨rcl, rcr, rll, rlt, rkt, rkm, rks⟩ := rsh
  have hll := hls.len
  have hyl := hyc.len
  obtain ⟨lm, le0, ln0, lf, hlq, hle, hln, hlN, hlx⟩ := id hfl
  have hxw := hl0
  obtain ⟨mw, fw, law, lew, lzw, ltw, lnw, lcw, lxw, lqw⟩ := hxw
  have hcl := hyc.cl lxw
  refine z_aload_n (pc := 0) (j := 0) C dX1_moveChord_0 rfl rfl ?_
  refine z_iload_n (pc := 1) (j := 1) C dX1_moveChord_1 rfl rfl ?_
  refine z_callV (pc := 2) (n := 1) (kc' := 1) (ks' := 6) C (op_chord C.t hW (i := i) (by omega) hx) (lw_V q1727 q1729 qs16 q63 q1730) (by decide +kernel) ⟨by decide, by decide⟩ hc0 rfl rfl rfl (Nat.le_of_ble_eq_true rfl) dX1_moveChord_2 (by omega) (by omega) (zrk fun w h2 hp => ?_) zrx
  obtain ⟨q1, rfl, hs3, eh2⟩ := hp
  rw [eh2]
  have xrq1 := rcr _ (List.mem_of_getElem? hx)
  obtain ⟨xr1q1, xr2q1, xr3q1, xr4q1, xr5q1⟩ := id xrq1
  show Z X h 1 6 [(0, .ref c), (1, .int (iI i)), (2, .int (iI k))] 5 [.ref q1]
  refine z_astore_n (pc := 5) (L' := [(3, .ref q1), (0, .ref c), (1, .int (iI i)), (2, .int (iI k))]) C dX1_moveChord_5 rfl (by rw [hnL]; decide) rfl ?_
  refine z_iload_n (pc := 6) (j := 3) C dX1_moveChord_6 rfl rfl ?_
  refine z_aload_n (pc := 7) (j := 1) C dX1_moveChord_7 rfl rfl ?_
  refine z_aload_n (pc := 8) (j := 0) C dX1_moveChord_8 rfl rfl ?_
  refine z_getfieldN (pc := 9) (v := .int (iI x.1)) C in_X7 rfl 0 (by decide) q593 (fun _ z => z) hs3 rfl dX1_moveChord_9 ?_
  refine z_callV (pc := 12) (n := 1) (kc' := 0) (ks' := 0) C (op_line_b C.t hW (i := x.1) (by omega) (by omega)) (lw_V q1691 q1693 qs15 q63 q1694) (by decide +kernel) ⟨by decide, by decide⟩ hc0 rfl rfl rfl (Nat.le_of_ble_eq_true rfl) dX1_moveChord_12 (by omega) (by omega) zthk (zthx fun q5 h4 hp => ?_)
  rw [hp]
  exact zx_out C (fun x hx => nomatch hx) (by rw [hXp]; exact ⟨_, rfl, rfl⟩)
set_option maxHeartbeats 4000000 in
theorem op_moveChord_b3 {l : Launch} (hl : l.stackTraces = false) {Γ : zCx} {h : zH} {c : Nat} {A : zWA} {σ : zSt} (hW : csW Γ h c A σ) {i : Int} {x : zCh} (hi : 0 ≤ i) (hx : σ.sh.cs[i.toNat]? = some x) {t : List Int} (ht : σ.sh.ls[x.1.toNat]? = some t) {k : Int} (hkr : -2147483648 ≤ k ∧ k ≤ 2147483647) (hb : ¬ (0 ≤ k ∧ k ≤ (t.length : Nat)))  : zMet l yX1_moveChord (ws_ yX1_moveChord cX1_moveChord 4 (some .int)) ({ frames := 7, cells := 1, slots := 6, locals := 102 }) Γ h [.ref c, .int (iI i), .int (iI k)] (zthp h "java/lang/IndexOutOfBoundsException") 1 6 := by
  refine zMet.of (cc := cX1_moveChord) hl (plainFor_of_name (by decide +kernel)) (Nat.le_of_ble_eq_true rfl) ?_
  intro X hXl hXΓ hXp C hnm hnL
  have C : zC X cX1_moveChord RX1 (some .int) 7 102 [] := C
  have hnL : X.2.1.2.2.2.2 = 4 := hnL
  subst hXl hXΓ
  show Z X h 1 6 [(0, .ref c), (1, .int (iI i)), (2, .int (iI k))] 0 []
  obtain ⟨⟨tf, hc0, htx, hch⟩, hdq, ⟨lq, kq, lys, ys, hsx, hfl, hls, hl0, hyc, hkx⟩, hhi, hnd, hR⟩ := id hW
  obtain ⟨rsi, rff, rwd, rtl, rtx, rsh, rhi, rhl⟩ := id hR
  obtain ⟨rcl, rcr, rll, rlt, rkt, rkm, rks⟩ := rsh
  have hll := hls.len
  have hyl := hyc.len
  obtain ⟨lm, le0, ln0, lf, hlq, hle, hln, hlN, hlx⟩ := id hfl
  have hxw := hl0
  obtain ⟨mw, fw, law, lew, lzw, ltw, lnw, lcw, lxw, lqw⟩ := hxw
  have hcl := hyc.cl lxw
  have htl := rlt _ (List.mem_of_getElem? ht)
  refine z_aload_n (pc := 0) (j := 0) C dX1_moveChord_0 rfl rfl ?_
  refine z_iload_n (pc := 1) (j := 1) C dX1_moveChord_1 rfl rfl ?_
  refine z_callV (pc := 2) (n := 1) (kc' := 1) (ks' := 6) C (op_chord C.t hW (i := i) (by omega) hx) (lw_V q1727 q1729 qs16 q63 q1730) (by decide +kernel) ⟨by decide, by decide⟩ hc0 rfl rfl rfl (Nat.le_of_ble_eq_true rfl) dX1_moveChord_2 (by omega) (by omega) (zrk fun w h2 hp => ?_) zrx
  obtain ⟨q1, rfl, hs3, eh2⟩ := hp
  rw [eh2]
  have xrq1 := rcr _ (List.mem_of_getElem? hx)
  obtain ⟨xr1q1, xr2q1, xr3q1, xr4q1, xr5q1⟩ := id xrq1
  show Z X h 1 6 [(0, .ref c), (1, .int (iI i)), (2, .int (iI k))] 5 [.ref q1]
  refine z_astore_n (pc := 5) (L' := [(3, .ref q1), (0, .ref c), (1, .int (iI i)), (2, .int (iI k))]) C dX1_moveChord_5 rfl (by rw [hnL]; decide) rfl ?_
  refine z_iload_n (pc := 6) (j := 3) C dX1_moveChord_6 rfl rfl ?_
  refine z_aload_n (pc := 7) (j := 1) C dX1_moveChord_7 rfl rfl ?_
  refine z_aload_n (pc := 8) (j := 0) C dX1_moveChord_8 rfl rfl ?_
  refine z_getfieldN (pc := 9) (v := .int (iI x.1)) C in_X7 rfl 0 (by decide) q593 (fun _ z => z) hs3 rfl dX1_moveChord_9 ?_
  refine z_callV (pc := 12) (n := 1) (kc' := 1) (ks' := 6) C (op_line C.t hW (i := x.1) (by omega) ht) (lw_V q1691 q1693 qs15 q63 q1694) (by decide +kernel) ⟨by decide, by decide⟩ hc0 rfl rfl rfl (Nat.le_of_ble_eq_true rfl) dX1_moveChord_12 (by omega) (by omega) (zrk fun w h5 hp => ?_) zrx
  obtain ⟨q4, rfl, hs6, eh5⟩ := hp
  rw [eh5]
  show Z X h 1 6 [(3, .ref q1), (0, .ref c), (1, .int (iI i)), (2, .int (iI k))] 15 [.ref q4, .int (iI k)]
  obtain ⟨hl_7, v_7, x_7, y_7, g_7, h1_7, h2_7, h3_7, h4_7⟩ := id (hs6)
  have h1_7 : h (q4) = some (false, .inr (13, [.ref v_7, .int (iI 0), .int x_7, .int y_7])) := h1_7
  refine z_callV (pc := 15) (n := 0) (kc' := 1) (ks' := 6) C (ct_S_length C.t hs6) (lw_V q1053 q468 q469 q83 q470) (by decide +kernel) ⟨by decide, by decide⟩ h1_7 rfl rfl rfl (Nat.le_of_ble_eq_true rfl) dX1_moveChord_15 (by omega) (by omega) (zpk (st' := [.int (iI ((t.length : Nat) : Int)), .int (iI k)]) rfl ?_) zrx
  refine z_iconst (pc := 18) C dX1_moveChord_18 ?_
  refine z_iadd (pc := 19) C dX1_moveChord_19 ?_
  refine z_callS (pc := 20) (n := 2) (kc' := 0) (ks' := 0) C (ct_chkIb C.t (i := k) (n := ((t.length : Nat) : Int) + 1) (by omega) (by omega)) (lw_S q1695 q1696 q63 q1697) (by decide +kernel) ⟨by decide, by decide⟩ rfl rfl (Nat.le_of_ble_eq_true rfl) dX1_moveChord_20 (by omega) (by omega) zthk (zthx fun q9 h8 hp => ?_)
  rw [hp]
  exact zx_out C (fun x hx => nomatch hx) (by rw [hXp]; exact ⟨_, rfl, rfl⟩)
set_option maxHeartbeats 4000000 in
theorem op_undo {l : Launch} (hl : l.stackTraces = false) {Γ : zCx} {h : zH} {c : Nat} {A : zWA} {σ : zSt} (hW : csW Γ h c A σ) {hs2 : List zSA} {x0 : zSA} {hi2 : List zSh} {S0 : zSh} (q1 : A.hs = hs2 ++ [x0]) (q2 : σ.hi = hi2 ++ [S0])  : zMet l yX1_undo (ws_ yX1_undo cX1_undo 1 (some .int)) ({ frames := 3, cells := 0, slots := 0, locals := 65 }) Γ h [.ref c] (zrt (fun w h' => w = some (.int (iI ((hs2.length : Nat) : Int))) ∧ ∃ A', wR Γ h c A h' A' (σ.tx, σ.si, σ.fl, σ.wd, S0, hi2))) 0 0 := by
  refine zMet.of (cc := cX1_undo) hl (plainFor_of_name (by decide +kernel)) (Nat.le_of_ble_eq_true rfl) ?_
  intro X hXl hXΓ hXp C hnm hnL
  have C : zC X cX1_undo RX1 (some .int) 3 65 [] := C
  have hnL : X.2.1.2.2.2.2 = 1 := hnL
  subst hXl hXΓ
  show Z X h 0 0 [(0, .ref c)] 0 []
  obtain ⟨⟨tf, hc0, htx, hch⟩, hdq, ⟨lq, kq, lys, ys, hsx, hfl, hls, hl0, hyc, hkx⟩, hhi, hnd, hR⟩ := id hW
  obtain ⟨rsi, rff, rwd, rtl, rtx, rsh, rhi, rhl⟩ := id hR
  obtain ⟨rcl, rcr, rll, rlt, rkt, rkm, rks⟩ := rsh
  have hll := hls.len
  have hyl := hyc.len
  obtain ⟨lm, le0, ln0, lf, hlq, hle, hln, hlN, hlx⟩ := id hfl
  have hxw := hl0
  obtain ⟨mw, fw, law, lew, lzw, ltw, lnw, lcw, lxw, lqw⟩ := hxw
  have hcl := hyc.cl lxw
  have hhl : A.hs.length = σ.hi.length := by obtain ⟨ps, p1, p2, -⟩ := hhi; rw [p1, p2]; simp
  obtain ⟨dhd, dfx, dd0, ddl, dda, dde, ddx⟩ := id hdq
  have hsz : (A.hs.map (·.s)).length = A.hs.length := by simp
  have hdq2 : dAt h A.dq A.de (hs2.map (·.s) ++ [x0.s]) := by rw [q1] at hdq; simpa using hdq
  obtain ⟨x0lq, x0kq, hx0s⟩ : ∃ lq kq, h x0.s = some (true, .inr (1, [.ref lq, .ref x0.cq, .ref kq])) := hiW.last hhi q1
  refine z_aload_n (pc := 0) (j := 0) C dX1_undo_0 rfl rfl ?_
  refine z_getfield (pc := 1) (v := .ref A.dq) C in_X1 rfl 6 (by decide) q283 (fun _ z => z) hc0 rfl dX1_undo_1 ?_
  refine z_callV (pc := 4) (n := 0) (kc' := 0) (ks' := 0) C (ct_D_isEmpty C.t hdq2) (lw_V q2061 q2062 q2063 q69 q2064) (by decide +kernel) ⟨by decide, by decide⟩ dda rfl rfl rfl (Nat.le_of_ble_eq_true rfl) dX1_undo_4 (by omega) (by omega) (zpk (st' := [.int (iI (if (hs2.map (·.s) ++ [x0.s]).length = 0 then 1 else 0))]) rfl ?_) zrx
  rw [show ((if (hs2.map (·.s) ++ [x0.s]).length = 0 then 1 else 0) : Int) = 0 from if_neg (by simp)]
  show Z X h 0 0 [(0, .ref c)] 7 [.int (iI 0)]
  refine z_if_ne (pc := 7) (tgt := 14) C dX1_undo_7 (by decide) (by decide) (fun z => absurd z (by decide)) (fun _ => ?_)
  refine z_iconst (pc := 10) C dX1_undo_10 ?_
  refine z_goto (pc := 11) (tgt := 15) C dX1_undo_11 (by decide) ?_
  refine z_callS (pc := 15) (n := 1) (kc' := 0) (ks' := 0) C (ct_chkS C.t) (lw_S q1664 q1665 q63 q1666) (by decide +kernel) ⟨by decide, by decide⟩ rfl rfl (Nat.le_of_ble_eq_true rfl) dX1_undo_15 (by omega) (by omega) (zpk (st' := []) rfl ?_) zrx
  refine z_aload_n (pc := 18) (j := 0) C dX1_undo_18 rfl rfl ?_
  refine z_aload_n (pc := 19) (j := 0) C dX1_undo_19 rfl rfl ?_
  refine z_getfield (pc := 20) (v := .ref A.dq) C in_X1 rfl 6 (by decide) q283 (fun _ z => z) hc0 rfl dX1_undo_20 ?_
  refine z_callV (pc := 23) (n := 0) (kc' := 0) (ks' := 0) C (ct_D_removeLast C.t hdq2) (lw_V q2065 q2066 q2067 q69 q2068) (by decide +kernel) ⟨by decide, by decide⟩ dda rfl rfl rfl (Nat.le_of_ble_eq_true rfl) dX1_undo_23 (by omega) (by omega) (zrk fun w h1 hp => ?_) zrx
  obtain ⟨rfl, hl2, k3⟩ := hp
  have kh1 : zkeep h h1 [c, A.dq, A.de] := zkeep.loc zkeep.rf k3 (zall_cons (Or.inl (Or.symm (Or.inl (by simp)))) (zall_cons (Or.inl (Or.symm (Or.inl (by simp)))) zall_nil))
  have fh1_1 : h1 c = some (true, .inr (0, [.ref A.tx, .int (iI ((σ.tx.length : Nat) : Int)), .int (iI σ.si), .int (iI σ.fl), .int (iI σ.wd), .ref A.cu.s, .ref A.dq])) := k3.n hc0 (List.not_mem_cons_of_ne_of_not_mem (zneC hc0 dda (by decide)) (List.not_mem_cons_of_ne_of_not_mem (zneA hc0 dde) List.not_mem_nil))
  obtain ⟨hd_4, f_4, d0_4, dl_4, da_4, de_4, dx_4⟩ := id hl2
  show Z X h1 0 0 [(0, .ref c)] 26 [.ref x0.s, .ref c]
  refine z_castS (pc := 26) C q115 rfl (kh1.n hx0s (List.not_mem_cons_of_ne_of_not_mem (zneC hx0s hc0 (by decide)) (List.not_mem_cons_of_ne_of_not_mem (zneC hx0s dda (by decide)) (List.not_mem_cons_of_ne_of_not_mem (zneA hx0s dde) List.not_mem_nil)))) dX1_undo_26 ?_
  refine z_putfield (pc := 29) (fs' := [.ref A.tx, .int (iI ((σ.tx.length : Nat) : Int)), .int (iI σ.si), .int (iI σ.fl), .int (iI σ.wd), .ref x0.s, .ref A.dq]) C in_X1 tyX1 tyX1_ok nmX1 rfl 5 (by decide) q282 (fun _ z => z) rfl rfl rfl (Nat.le_of_ble_eq_true rfl) fh1_1 rfl dX1_undo_29 ?_
  refine Z.nm (fun h5 eh5 => ?_)
  have kh5 : zkeep h h5 [c, A.dq, A.de] := by rw [eh5]; exact zkeep.up kh1 (Or.inl (by simp)) fh1_1
  have fh5_0 : h5 c = some (true, .inr (0, [.ref A.tx, .int (iI ((σ.tx.length : Nat) : Int)), .int (iI σ.si), .int (iI σ.fl), .int (iI σ.wd), .ref x0.s, .ref A.dq])) := zse eh5
  have fh5_1 : h5 A.dq = some (true, .inr (11, [.ref A.de, .int (iI ((hd_4 : Nat) : Int)), .int (iI (((hd_4 + (hs2.map (·.s)).length) % 10 : Nat) : Int))])) := zsn eh5 da_4 (zneC da_4 fh1_1 (by decide))
  have fh5_2 : h5 A.de = some (true, .inl ((.object "java/lang/Object"), 10, f_4)) := zsn eh5 de_4 (Ne.symm (zneA fh1_1 de_4))
  refine z_aload_n (pc := 32) (j := 0) C dX1_undo_32 rfl rfl ?_
  refine z_getfield (pc := 33) (v := .ref A.dq) C in_X1 rfl 6 (by decide) q283 (fun _ z => z) fh5_0 rfl dX1_undo_33 ?_
  refine z_callV (pc := 36) (n := 0) (kc' := 0) (ks' := 0) C (ct_D_size C.t (dAt.mk (xs := (hs2.map (·.s))) d0_4 dl_4 rfl rfl fh5_1 fh5_2 dx_4)) (lw_V q935 q936 q937 q69 q938) (by decide +kernel) ⟨by decide, by decide⟩ fh5_1 rfl rfl rfl (Nat.le_of_ble_eq_true rfl) dX1_undo_36 (by omega) (by omega) (zpk (st' := [.int (iI (((hs2.map (·.s)).length : Nat) : Int))]) rfl ?_) zrx
  exact z_ireturn (pc := 39) C (by rw [hXp]; exact ⟨_, rfl, (show some (Value.int (iI ((((hs2.map (·.s)).length : Nat) : Int)))) = _ by simp), _, csW.un hW q1 q2 kh5 fh5_0 (dAt.mk (xs := (hs2.map (·.s))) d0_4 dl_4 rfl rfl fh5_1 fh5_2 dx_4)⟩) dX1_undo_39
set_option maxHeartbeats 4000000 in
theorem op_undo_b {l : Launch} (hl : l.stackTraces = false) {Γ : zCx} {h : zH} {c : Nat} {A : zWA} {σ : zSt} (hW : csW Γ h c A σ) (q1 : σ.hi = [])  : zMet l yX1_undo (ws_ yX1_undo cX1_undo 1 (some .int)) ({ frames := 7, cells := 1, slots := 6, locals := 101 }) Γ h [.ref c] (zthp h "java/lang/IllegalStateException") 1 6 := by
  refine zMet.of (cc := cX1_undo) hl (plainFor_of_name (by decide +kernel)) (Nat.le_of_ble_eq_true rfl) ?_
  intro X hXl hXΓ hXp C hnm hnL
  have C : zC X cX1_undo RX1 (some .int) 7 101 [] := C
  have hnL : X.2.1.2.2.2.2 = 1 := hnL
  subst hXl hXΓ
  show Z X h 1 6 [(0, .ref c)] 0 []
  obtain ⟨⟨tf, hc0, htx, hch⟩, hdq, ⟨lq, kq, lys, ys, hsx, hfl, hls, hl0, hyc, hkx⟩, hhi, hnd, hR⟩ := id hW
  obtain ⟨rsi, rff, rwd, rtl, rtx, rsh, rhi, rhl⟩ := id hR
  obtain ⟨rcl, rcr, rll, rlt, rkt, rkm, rks⟩ := rsh
  have hll := hls.len
  have hyl := hyc.len
  obtain ⟨lm, le0, ln0, lf, hlq, hle, hln, hlN, hlx⟩ := id hfl
  have hxw := hl0
  obtain ⟨mw, fw, law, lew, lzw, ltw, lnw, lcw, lxw, lqw⟩ := hxw
  have hcl := hyc.cl lxw
  have hhl : A.hs.length = σ.hi.length := by obtain ⟨ps, p1, p2, -⟩ := hhi; rw [p1, p2]; simp
  obtain ⟨dhd, dfx, dd0, ddl, dda, dde, ddx⟩ := id hdq
  have hsz : (A.hs.map (·.s)).length = A.hs.length := by simp
  have hz0 : (A.hs.map (·.s)).length = 0 := by rw [hsz, hhl, q1]; rfl
  refine z_aload_n (pc := 0) (j := 0) C dX1_undo_0 rfl rfl ?_
  refine z_getfield (pc := 1) (v := .ref A.dq) C in_X1 rfl 6 (by decide) q283 (fun _ z => z) hc0 rfl dX1_undo_1 ?_
  refine z_callV (pc := 4) (n := 0) (kc' := 1) (ks' := 6) C (ct_D_isEmpty C.t hdq) (lw_V q2061 q2062 q2063 q69 q2064) (by decide +kernel) ⟨by decide, by decide⟩ dda rfl rfl rfl (Nat.le_of_ble_eq_true rfl) dX1_undo_4 (by omega) (by omega) (zpk (st' := [.int (iI (if (A.hs.map (·.s)).length = 0 then 1 else 0))]) rfl ?_) zrx
  rw [show ((if (A.hs.map (·.s)).length = 0 then 1 else 0) : Int) = 1 from if_pos hz0]
  show Z X h 1 6 [(0, .ref c)] 7 [.int (iI 1)]
  refine z_if_ne (pc := 7) (tgt := 14) C dX1_undo_7 (by decide) (by decide) (fun _ => ?_) (fun z => absurd z (by decide))
  refine z_iconst (pc := 14) C dX1_undo_14 ?_
  refine z_callS (pc := 15) (n := 1) (kc' := 0) (ks' := 0) C (ct_chkSb C.t ) (lw_S q1664 q1665 q63 q1666) (by decide +kernel) ⟨by decide, by decide⟩ rfl rfl (Nat.le_of_ble_eq_true rfl) dX1_undo_15 (by omega) (by omega) zthk (zthx fun q2 h1 hp => ?_)
  rw [hp]
  exact zx_out C (fun x hx => nomatch hx) (by rw [hXp]; exact ⟨_, rfl, rfl⟩)

/-! 42.mkeys.lean.txt -/
set_option maxRecDepth 100000
abbrev cX4_isInScale : ByteArray := prog_11_method_51_code
def yX4_isInScale : MethodName := ⟨RX4, "isInScale", "(II)Z"⟩
def dkwX4_isInScale_1 : List UInt8 := [160, 0, 7, 4, 167, 0, 4, 3, 61, 132, 3, 1, 167, 255, 228, 28, 172]
abbrev dktX4_isInScale_1 : List UInt8 := dkwX4_isInScale_1 ++ []
def dkwX4_isInScale_0 : List UInt8 := [3, 61, 26, 4, 100, 62, 29, 26, 8, 96, 163, 0, 27, 28, 154, 0, 11, 29, 184, 0, 161, 27]
abbrev dktX4_isInScale_0 : List UInt8 := dkwX4_isInScale_0 ++ dktX4_isInScale_1
theorem dksX4_isInScale_0 : cX4_isInScale.data.toList.drop 0 = dktX4_isInScale_0 := by decide +kernel
theorem dksX4_isInScale_1 : cX4_isInScale.data.toList.drop 22 = dktX4_isInScale_1 := dk_seg dksX4_isInScale_0 22 rfl rfl
abbrev cX4_isMinorChord : ByteArray := prog_11_method_59_code
def yX4_isMinorChord : MethodName := ⟨RX4, "isMinorChord", "(I)Z"⟩
def dkwX4_isMinorChord_0 : List UInt8 := [26, 4, 159, 0, 13, 26, 6, 159, 0, 8, 26, 8, 160, 0, 7, 4, 167, 0, 4, 3, 172]
abbrev dktX4_isMinorChord_0 : List UInt8 := dkwX4_isMinorChord_0 ++ []
theorem dksX4_isMinorChord_0 : cX4_isMinorChord.data.toList.drop 0 = dktX4_isMinorChord_0 := by decide +kernel
abbrev cX4_isKey : ByteArray := prog_11_method_57_code
def yX4_isKey : MethodName := ⟨RX4, "isKey", "(IZ)Z"⟩
def dkwX4_isKey_0 : List UInt8 := [27, 153, 0, 9, 26, 6, 100, 167, 0, 4, 26, 16, 250, 16, 6, 184, 0, 97, 172]
abbrev dktX4_isKey_0 : List UInt8 := dkwX4_isKey_0 ++ []
theorem dksX4_isKey_0 : cX4_isKey.data.toList.drop 0 = dktX4_isKey_0 := by decide +kernel
abbrev cX4_scoreOf : ByteArray := prog_11_method_60_code
def yX4_scoreOf : MethodName := ⟨RX4, "scoreOf", "(IZ)I"⟩
def dkwX4_scoreOf_6 : List UInt8 := [160, 0, 7, 5, 167, 0, 4, 3, 96, 62, 132, 4, 1, 167, 255, 111, 29, 172]
abbrev dktX4_scoreOf_6 : List UInt8 := dkwX4_scoreOf_6 ++ []
def dkwX4_scoreOf_5 : List UInt8 := [167, 0, 4, 3, 96, 62, 29, 21, 6, 153, 0, 20, 21, 4, 42, 180, 0, 7, 4, 46, 4, 100]
abbrev dktX4_scoreOf_5 : List UInt8 := dkwX4_scoreOf_5 ++ dktX4_scoreOf_6
def dkwX4_scoreOf_4 : List UInt8 := [153, 0, 26, 42, 180, 0, 7, 21, 4, 184, 0, 94, 6, 96, 46, 184, 0, 181, 28, 160, 0, 7, 4]
abbrev dktX4_scoreOf_4 : List UInt8 := dkwX4_scoreOf_4 ++ dktX4_scoreOf_5
def dkwX4_scoreOf_3 : List UInt8 := [167, 0, 4, 3, 96, 62, 29, 21, 6, 153, 0, 7, 4, 167, 0, 4, 3, 96, 62, 29, 21, 6]
abbrev dktX4_scoreOf_3 : List UInt8 := dkwX4_scoreOf_3 ++ dktX4_scoreOf_4
def dkwX4_scoreOf_2 : List UInt8 := [3, 54, 6, 29, 28, 153, 0, 9, 27, 6, 100, 167, 0, 4, 27, 21, 5, 184, 0, 174, 153, 0, 7, 5]
abbrev dktX4_scoreOf_2 : List UInt8 := dkwX4_scoreOf_2 ++ dktX4_scoreOf_3
def dkwX4_scoreOf_1 : List UInt8 := [184, 0, 94, 5, 96, 46, 184, 0, 161, 54, 5, 21, 5, 27, 184, 0, 161, 160, 0, 7, 4, 167, 0, 4]
abbrev dktX4_scoreOf_1 : List UInt8 := dkwX4_scoreOf_1 ++ dktX4_scoreOf_2
def dkwX4_scoreOf_0 : List UInt8 := [3, 62, 3, 54, 4, 21, 4, 42, 180, 0, 7, 4, 46, 162, 0, 140, 42, 180, 0, 7, 21, 4]
abbrev dktX4_scoreOf_0 : List UInt8 := dkwX4_scoreOf_0 ++ dktX4_scoreOf_1
theorem dksX4_scoreOf_0 : cX4_scoreOf.data.toList.drop 0 = dktX4_scoreOf_0 := by decide +kernel
theorem dksX4_scoreOf_1 : cX4_scoreOf.data.toList.drop 22 = dktX4_scoreOf_1 := dk_seg dksX4_scoreOf_0 22 rfl rfl
theorem dksX4_scoreOf_2 : cX4_scoreOf.data.toList.drop 46 = dktX4_scoreOf_2 := dk_seg dksX4_scoreOf_1 24 rfl rfl
theorem dksX4_scoreOf_3 : cX4_scoreOf.data.toList.drop 70 = dktX4_scoreOf_3 := dk_seg dksX4_scoreOf_2 24 rfl rfl
theorem dksX4_scoreOf_4 : cX4_scoreOf.data.toList.drop 92 = dktX4_scoreOf_4 := dk_seg dksX4_scoreOf_3 22 rfl rfl
theorem dksX4_scoreOf_5 : cX4_scoreOf.data.toList.drop 115 = dktX4_scoreOf_5 := dk_seg dksX4_scoreOf_4 23 rfl rfl
theorem dksX4_scoreOf_6 : cX4_scoreOf.data.toList.drop 137 = dktX4_scoreOf_6 := dk_seg dksX4_scoreOf_5 22 rfl rfl
abbrev cX4_found : ByteArray := prog_11_method_62_code
def yX4_found : MethodName := ⟨RX4, "found", "()I"⟩
def dkwX4_found_4 : List UInt8 := [132, 4, 1, 167, 255, 179, 132, 3, 1, 167, 255, 165, 27, 172]
abbrev dktX4_found_4 : List UInt8 := dkwX4_found_4 ++ []
def dkwX4_found_3 : List UInt8 := [182, 0, 184, 54, 7, 21, 7, 28, 164, 0, 14, 21, 7, 61, 21, 6, 16, 100, 29, 104, 96, 60]
abbrev dktX4_found_3 : List UInt8 := dkwX4_found_3 ++ dktX4_found_4
def dkwX4_found_2 : List UInt8 := [116, 54, 5, 21, 5, 6, 29, 104, 96, 54, 6, 42, 21, 6, 29, 4, 160, 0, 7, 4, 167, 0, 4, 3]
abbrev dktX4_found_2 : List UInt8 := dkwX4_found_2 ++ dktX4_found_3
def dkwX4_found_1 : List UInt8 := [163, 0, 76, 21, 4, 5, 112, 4, 160, 0, 12, 21, 4, 5, 108, 4, 96, 167, 0, 8, 21, 4, 5, 108]
abbrev dktX4_found_1 : List UInt8 := dkwX4_found_1 ++ dktX4_found_2
def dkwX4_found_0 : List UInt8 := [3, 60, 42, 3, 3, 182, 0, 184, 61, 3, 62, 29, 5, 162, 0, 92, 3, 54, 4, 21, 4, 16, 12]
abbrev dktX4_found_0 : List UInt8 := dkwX4_found_0 ++ dktX4_found_1
theorem dksX4_found_0 : cX4_found.data.toList.drop 0 = dktX4_found_0 := by decide +kernel
theorem dksX4_found_1 : cX4_found.data.toList.drop 23 = dktX4_found_1 := dk_seg dksX4_found_0 23 rfl rfl
theorem dksX4_found_2 : cX4_found.data.toList.drop 47 = dktX4_found_2 := dk_seg dksX4_found_1 24 rfl rfl
theorem dksX4_found_3 : cX4_found.data.toList.drop 71 = dktX4_found_3 := dk_seg dksX4_found_2 24 rfl rfl
theorem dksX4_found_4 : cX4_found.data.toList.drop 93 = dktX4_found_4 := dk_seg dksX4_found_3 22 rfl rfl
abbrev cX4_findKey : ByteArray := prog_11_method_63_code
def yX4_findKey : MethodName := ⟨RX4, "findKey", "()I"⟩
def dkwX4_findKey_0 : List UInt8 := [42, 3, 181, 0, 46, 42, 182, 0, 110, 172]
abbrev dktX4_findKey_0 : List UInt8 := dkwX4_findKey_0 ++ []
theorem dksX4_findKey_0 : cX4_findKey.data.toList.drop 0 = dktX4_findKey_0 := by decide +kernel
abbrev cX4_score : ByteArray := prog_11_method_61_code
def yX4_score : MethodName := ⟨RX4, "score", "(IZ)I"⟩
def dkwX4_score_1 : List UInt8 := [182, 0, 101, 172]
abbrev dktX4_score_1 : List UInt8 := dkwX4_score_1 ++ []
def dkwX4_score_0 : List UInt8 := [42, 3, 181, 0, 46, 27, 28, 184, 0, 177, 153, 0, 12, 42, 27, 28, 182, 0, 184, 167, 0, 8, 42, 4]
abbrev dktX4_score_0 : List UInt8 := dkwX4_score_0 ++ dktX4_score_1
theorem dksX4_score_0 : cX4_score.data.toList.drop 0 = dktX4_score_0 := by decide +kernel
theorem dksX4_score_1 : cX4_score.data.toList.drop 24 = dktX4_score_1 := dk_seg dksX4_score_0 24 rfl rfl
abbrev cX4_acts : ByteArray := prog_11_method_5_code
def yX4_acts : MethodName := ⟨RX4, "acts", "()V"⟩
def dkwX4_acts_4 : List UInt8 := [181, 0, 49, 177]
abbrev dktX4_acts_4 : List UInt8 := dkwX4_acts_4 ++ []
def dkwX4_acts_3 : List UInt8 := [27, 96, 42, 180, 0, 7, 27, 46, 79, 132, 1, 1, 167, 255, 225, 42, 89, 180, 0, 49, 4, 96]
abbrev dktX4_acts_3 : List UInt8 := dkwX4_acts_3 ++ dktX4_acts_4
def dkwX4_acts_2 : List UInt8 := [181, 0, 49, 3, 60, 27, 17, 2, 108, 162, 0, 30, 42, 180, 0, 13, 17, 2, 108, 42, 180, 0, 49, 104]
abbrev dktX4_acts_2 : List UInt8 := dkwX4_acts_2 ++ dktX4_acts_3
def dkwX4_acts_1 : List UInt8 := [180, 0, 13, 27, 17, 2, 108, 96, 46, 79, 132, 1, 1, 167, 255, 230, 42, 89, 180, 0, 49, 4, 100]
abbrev dktX4_acts_1 : List UInt8 := dkwX4_acts_1 ++ dktX4_acts_2
def dkwX4_acts_0 : List UInt8 := [42, 180, 0, 49, 16, 8, 160, 0, 44, 3, 60, 27, 17, 16, 244, 162, 0, 25, 42, 180, 0, 13, 27, 42]
abbrev dktX4_acts_0 : List UInt8 := dkwX4_acts_0 ++ dktX4_acts_1
theorem dksX4_acts_0 : cX4_acts.data.toList.drop 0 = dktX4_acts_0 := by decide +kernel
theorem dksX4_acts_1 : cX4_acts.data.toList.drop 24 = dktX4_acts_1 := dk_seg dksX4_acts_0 24 rfl rfl
theorem dksX4_acts_2 : cX4_acts.data.toList.drop 47 = dktX4_acts_2 := dk_seg dksX4_acts_1 23 rfl rfl
theorem dksX4_acts_3 : cX4_acts.data.toList.drop 71 = dktX4_acts_3 := dk_seg dksX4_acts_2 24 rfl rfl
theorem dksX4_acts_4 : cX4_acts.data.toList.drop 93 = dktX4_acts_4 := dk_seg dksX4_acts_3 22 rfl rfl
abbrev cX4_setKey : ByteArray := prog_11_method_58_code
def yX4_setKey : MethodName := ⟨RX4, "setKey", "(IZ)I"⟩
def dkwX4_setKey_2 : List UInt8 := [3, 79, 29, 172]
abbrev dktX4_setKey_2 : List UInt8 := dkwX4_setKey_2 ++ []
def dkwX4_setKey_1 : List UInt8 := [182, 0, 171, 62, 42, 180, 0, 7, 5, 27, 79, 42, 180, 0, 7, 6, 28, 153, 0, 7, 4, 167, 0, 4]
abbrev dktX4_setKey_1 : List UInt8 := dkwX4_setKey_1 ++ dktX4_setKey_2
def dkwX4_setKey_0 : List UInt8 := [42, 3, 181, 0, 46, 27, 28, 184, 0, 177, 154, 0, 9, 42, 4, 182, 0, 101, 172, 42, 182, 0, 107, 42]
abbrev dktX4_setKey_0 : List UInt8 := dkwX4_setKey_0 ++ dktX4_setKey_1
theorem dksX4_setKey_0 : cX4_setKey.data.toList.drop 0 = dktX4_setKey_0 := by decide +kernel
theorem dksX4_setKey_1 : cX4_setKey.data.toList.drop 24 = dktX4_setKey_1 := dk_seg dksX4_setKey_0 24 rfl rfl
theorem dksX4_setKey_2 : cX4_setKey.data.toList.drop 48 = dktX4_setKey_2 := dk_seg dksX4_setKey_1 24 rfl rfl
abbrev cX4_undo : ByteArray := prog_11_method_82_code
def yX4_undo : MethodName := ⟨RX4, "undo", "()I"⟩
def dkwX4_undo_2 : List UInt8 := [17, 2, 108, 42, 180, 0, 49, 104, 27, 96, 46, 79, 132, 1, 1, 167, 255, 225, 42, 180, 0, 49, 172]
abbrev dktX4_undo_2 : List UInt8 := dkwX4_undo_2 ++ []
def dkwX4_undo_1 : List UInt8 := [100, 181, 0, 49, 3, 60, 27, 17, 2, 108, 162, 0, 30, 42, 180, 0, 7, 27, 42, 180, 0, 13]
abbrev dktX4_undo_1 : List UInt8 := dkwX4_undo_1 ++ dktX4_undo_2
def dkwX4_undo_0 : List UInt8 := [42, 3, 181, 0, 46, 42, 180, 0, 49, 154, 0, 9, 42, 4, 182, 0, 101, 172, 42, 89, 180, 0, 49, 4]
abbrev dktX4_undo_0 : List UInt8 := dkwX4_undo_0 ++ dktX4_undo_1
theorem dksX4_undo_0 : cX4_undo.data.toList.drop 0 = dktX4_undo_0 := by decide +kernel
theorem dksX4_undo_1 : cX4_undo.data.toList.drop 24 = dktX4_undo_1 := dk_seg dksX4_undo_0 24 rfl rfl
theorem dksX4_undo_2 : cX4_undo.data.toList.drop 46 = dktX4_undo_2 := dk_seg dksX4_undo_1 22 rfl rfl
theorem dX4_isInScale_0 : decode cX4_isInScale 0 = .ok (.iconst 0, 1) := dk_3 (dk_at dksX4_isInScale_0 0 rfl rfl)
theorem dX4_isInScale_1 : decode cX4_isInScale 1 = .ok (.istore_n 2, 1) := dk_61 (dk_at dksX4_isInScale_0 1 rfl rfl)
theorem dX4_isInScale_2 : decode cX4_isInScale 2 = .ok (.iload_n 0, 1) := dk_26 (dk_at dksX4_isInScale_0 2 rfl rfl)
theorem dX4_isInScale_3 : decode cX4_isInScale 3 = .ok (.iconst 1, 1) := dk_4 (dk_at dksX4_isInScale_0 3 rfl rfl)
theorem dX4_isInScale_4 : decode cX4_isInScale 4 = .ok (.isub, 1) := dk_100 (dk_at dksX4_isInScale_0 4 rfl rfl)
theorem dX4_isInScale_5 : decode cX4_isInScale 5 = .ok (.istore_n 3, 1) := dk_62 (dk_at dksX4_isInScale_0 5 rfl rfl)
theorem dX4_isInScale_6 : decode cX4_isInScale 6 = .ok (.iload_n 3, 1) := dk_29 (dk_at dksX4_isInScale_0 6 rfl rfl)
theorem dX4_isInScale_7 : decode cX4_isInScale 7 = .ok (.iload_n 0, 1) := dk_26 (dk_at dksX4_isInScale_0 7 rfl rfl)
theorem dX4_isInScale_8 : decode cX4_isInScale 8 = .ok (.iconst 5, 1) := dk_8 (dk_at dksX4_isInScale_0 8 rfl rfl)
theorem dX4_isInScale_9 : decode cX4_isInScale 9 = .ok (.iadd, 1) := dk_96 (dk_at dksX4_isInScale_0 9 rfl rfl)
theorem dX4_isInScale_10 : decode cX4_isInScale 10 = .ok (.if_icmp .gt 27, 3) := dk_163 0 27 (dk_at dksX4_isInScale_0 10 rfl rfl)
theorem dX4_isInScale_13 : decode cX4_isInScale 13 = .ok (.iload_n 2, 1) := dk_28 (dk_at dksX4_isInScale_0 13 rfl rfl)
theorem dX4_isInScale_14 : decode cX4_isInScale 14 = .ok (.ifCond .ne 11, 3) := dk_154 0 11 (dk_at dksX4_isInScale_0 14 rfl rfl)
theorem dX4_isInScale_17 : decode cX4_isInScale 17 = .ok (.iload_n 3, 1) := dk_29 (dk_at dksX4_isInScale_0 17 rfl rfl)
theorem dX4_isInScale_18 : decode cX4_isInScale 18 = .ok (.invokestatic 161, 3) := dk_184 0 161 (dk_at dksX4_isInScale_0 18 rfl rfl)
theorem dX4_isInScale_21 : decode cX4_isInScale 21 = .ok (.iload_n 1, 1) := dk_27 (dk_at dksX4_isInScale_0 21 rfl rfl)
theorem dX4_isInScale_22 : decode cX4_isInScale 22 = .ok (.if_icmp .ne 7, 3) := dk_160 0 7 (dk_at dksX4_isInScale_1 0 rfl rfl)
theorem dX4_isInScale_25 : decode cX4_isInScale 25 = .ok (.iconst 1, 1) := dk_4 (dk_at dksX4_isInScale_1 3 rfl rfl)
theorem dX4_isInScale_26 : decode cX4_isInScale 26 = .ok (.goto 4, 3) := dk_167 0 4 (dk_at dksX4_isInScale_1 4 rfl rfl)
theorem dX4_isInScale_29 : decode cX4_isInScale 29 = .ok (.iconst 0, 1) := dk_3 (dk_at dksX4_isInScale_1 7 rfl rfl)
theorem dX4_isInScale_30 : decode cX4_isInScale 30 = .ok (.istore_n 2, 1) := dk_61 (dk_at dksX4_isInScale_1 8 rfl rfl)
theorem dX4_isInScale_31 : decode cX4_isInScale 31 = .ok (.iinc 3 1, 3) := dk_132 3 1 (dk_at dksX4_isInScale_1 9 rfl rfl)
theorem dX4_isInScale_34 : decode cX4_isInScale 34 = .ok (.goto (-28), 3) := dk_167 255 228 (dk_at dksX4_isInScale_1 12 rfl rfl)
theorem dX4_isInScale_37 : decode cX4_isInScale 37 = .ok (.iload_n 2, 1) := dk_28 (dk_at dksX4_isInScale_1 15 rfl rfl)
theorem dX4_isInScale_38 : decode cX4_isInScale 38 = .ok (.ireturn, 1) := dk_172 (dk_at dksX4_isInScale_1 16 rfl rfl)
theorem dX4_isMinorChord_0 : decode cX4_isMinorChord 0 = .ok (.iload_n 0, 1) := dk_26 (dk_at dksX4_isMinorChord_0 0 rfl rfl)
theorem dX4_isMinorChord_1 : decode cX4_isMinorChord 1 = .ok (.iconst 1, 1) := dk_4 (dk_at dksX4_isMinorChord_0 1 rfl rfl)
theorem dX4_isMinorChord_2 : decode cX4_isMinorChord 2 = .ok (.if_icmp .eq 13, 3) := dk_159 0 13 (dk_at dksX4_isMinorChord_0 2 rfl rfl)
theorem dX4_isMinorChord_5 : decode cX4_isMinorChord 5 = .ok (.iload_n 0, 1) := dk_26 (dk_at dksX4_isMinorChord_0 5 rfl rfl)
theorem dX4_isMinorChord_6 : decode cX4_isMinorChord 6 = .ok (.iconst 3, 1) := dk_6 (dk_at dksX4_isMinorChord_0 6 rfl rfl)
theorem dX4_isMinorChord_7 : decode cX4_isMinorChord 7 = .ok (.if_icmp .eq 8, 3) := dk_159 0 8 (dk_at dksX4_isMinorChord_0 7 rfl rfl)
theorem dX4_isMinorChord_10 : decode cX4_isMinorChord 10 = .ok (.iload_n 0, 1) := dk_26 (dk_at dksX4_isMinorChord_0 10 rfl rfl)
theorem dX4_isMinorChord_11 : decode cX4_isMinorChord 11 = .ok (.iconst 5, 1) := dk_8 (dk_at dksX4_isMinorChord_0 11 rfl rfl)
theorem dX4_isMinorChord_12 : decode cX4_isMinorChord 12 = .ok (.if_icmp .ne 7, 3) := dk_160 0 7 (dk_at dksX4_isMinorChord_0 12 rfl rfl)
theorem dX4_isMinorChord_15 : decode cX4_isMinorChord 15 = .ok (.iconst 1, 1) := dk_4 (dk_at dksX4_isMinorChord_0 15 rfl rfl)
theorem dX4_isMinorChord_16 : decode cX4_isMinorChord 16 = .ok (.goto 4, 3) := dk_167 0 4 (dk_at dksX4_isMinorChord_0 16 rfl rfl)
theorem dX4_isMinorChord_19 : decode cX4_isMinorChord 19 = .ok (.iconst 0, 1) := dk_3 (dk_at dksX4_isMinorChord_0 19 rfl rfl)
theorem dX4_isMinorChord_20 : decode cX4_isMinorChord 20 = .ok (.ireturn, 1) := dk_172 (dk_at dksX4_isMinorChord_0 20 rfl rfl)
theorem dX4_isKey_0 : decode cX4_isKey 0 = .ok (.iload_n 1, 1) := dk_27 (dk_at dksX4_isKey_0 0 rfl rfl)
theorem dX4_isKey_1 : decode cX4_isKey 1 = .ok (.ifCond .eq 9, 3) := dk_153 0 9 (dk_at dksX4_isKey_0 1 rfl rfl)
theorem dX4_isKey_4 : decode cX4_isKey 4 = .ok (.iload_n 0, 1) := dk_26 (dk_at dksX4_isKey_0 4 rfl rfl)
theorem dX4_isKey_5 : decode cX4_isKey 5 = .ok (.iconst 3, 1) := dk_6 (dk_at dksX4_isKey_0 5 rfl rfl)
theorem dX4_isKey_6 : decode cX4_isKey 6 = .ok (.isub, 1) := dk_100 (dk_at dksX4_isKey_0 6 rfl rfl)
theorem dX4_isKey_7 : decode cX4_isKey 7 = .ok (.goto 4, 3) := dk_167 0 4 (dk_at dksX4_isKey_0 7 rfl rfl)
theorem dX4_isKey_10 : decode cX4_isKey 10 = .ok (.iload_n 0, 1) := dk_26 (dk_at dksX4_isKey_0 10 rfl rfl)
theorem dX4_isKey_11 : decode cX4_isKey 11 = .ok (.bipush (-6), 2) := dk_16 250 (dk_at dksX4_isKey_0 11 rfl rfl)
theorem dX4_isKey_13 : decode cX4_isKey 13 = .ok (.bipush 6, 2) := dk_16 6 (dk_at dksX4_isKey_0 13 rfl rfl)
theorem dX4_isKey_15 : decode cX4_isKey 15 = .ok (.invokestatic 97, 3) := dk_184 0 97 (dk_at dksX4_isKey_0 15 rfl rfl)
theorem dX4_isKey_18 : decode cX4_isKey 18 = .ok (.ireturn, 1) := dk_172 (dk_at dksX4_isKey_0 18 rfl rfl)
theorem dX4_scoreOf_0 : decode cX4_scoreOf 0 = .ok (.iconst 0, 1) := dk_3 (dk_at dksX4_scoreOf_0 0 rfl rfl)
theorem dX4_scoreOf_1 : decode cX4_scoreOf 1 = .ok (.istore_n 3, 1) := dk_62 (dk_at dksX4_scoreOf_0 1 rfl rfl)
theorem dX4_scoreOf_2 : decode cX4_scoreOf 2 = .ok (.iconst 0, 1) := dk_3 (dk_at dksX4_scoreOf_0 2 rfl rfl)
theorem dX4_scoreOf_3 : decode cX4_scoreOf 3 = .ok (.istore 4, 2) := dk_54 4 (dk_at dksX4_scoreOf_0 3 rfl rfl)
theorem dX4_scoreOf_5 : decode cX4_scoreOf 5 = .ok (.iload 4, 2) := dk_21 4 (dk_at dksX4_scoreOf_0 5 rfl rfl)
theorem dX4_scoreOf_7 : decode cX4_scoreOf 7 = .ok (.aload_n 0, 1) := dk_42 (dk_at dksX4_scoreOf_0 7 rfl rfl)
theorem dX4_scoreOf_8 : decode cX4_scoreOf 8 = .ok (.getfield 7, 3) := dk_180 0 7 (dk_at dksX4_scoreOf_0 8 rfl rfl)
theorem dX4_scoreOf_11 : decode cX4_scoreOf 11 = .ok (.iconst 1, 1) := dk_4 (dk_at dksX4_scoreOf_0 11 rfl rfl)
theorem dX4_scoreOf_12 : decode cX4_scoreOf 12 = .ok (.iaload, 1) := dk_46 (dk_at dksX4_scoreOf_0 12 rfl rfl)
theorem dX4_scoreOf_13 : decode cX4_scoreOf 13 = .ok (.if_icmp .ge 140, 3) := dk_162 0 140 (dk_at dksX4_scoreOf_0 13 rfl rfl)
theorem dX4_scoreOf_16 : decode cX4_scoreOf 16 = .ok (.aload_n 0, 1) := dk_42 (dk_at dksX4_scoreOf_0 16 rfl rfl)
theorem dX4_scoreOf_17 : decode cX4_scoreOf 17 = .ok (.getfield 7, 3) := dk_180 0 7 (dk_at dksX4_scoreOf_0 17 rfl rfl)
theorem dX4_scoreOf_20 : decode cX4_scoreOf 20 = .ok (.iload 4, 2) := dk_21 4 (dk_at dksX4_scoreOf_0 20 rfl rfl)
theorem dX4_scoreOf_22 : decode cX4_scoreOf 22 = .ok (.invokestatic 94, 3) := dk_184 0 94 (dk_at dksX4_scoreOf_1 0 rfl rfl)
theorem dX4_scoreOf_25 : decode cX4_scoreOf 25 = .ok (.iconst 2, 1) := dk_5 (dk_at dksX4_scoreOf_1 3 rfl rfl)
theorem dX4_scoreOf_26 : decode cX4_scoreOf 26 = .ok (.iadd, 1) := dk_96 (dk_at dksX4_scoreOf_1 4 rfl rfl)
theorem dX4_scoreOf_27 : decode cX4_scoreOf 27 = .ok (.iaload, 1) := dk_46 (dk_at dksX4_scoreOf_1 5 rfl rfl)
theorem dX4_scoreOf_28 : decode cX4_scoreOf 28 = .ok (.invokestatic 161, 3) := dk_184 0 161 (dk_at dksX4_scoreOf_1 6 rfl rfl)
theorem dX4_scoreOf_31 : decode cX4_scoreOf 31 = .ok (.istore 5, 2) := dk_54 5 (dk_at dksX4_scoreOf_1 9 rfl rfl)
theorem dX4_scoreOf_33 : decode cX4_scoreOf 33 = .ok (.iload 5, 2) := dk_21 5 (dk_at dksX4_scoreOf_1 11 rfl rfl)
theorem dX4_scoreOf_35 : decode cX4_scoreOf 35 = .ok (.iload_n 1, 1) := dk_27 (dk_at dksX4_scoreOf_1 13 rfl rfl)
theorem dX4_scoreOf_36 : decode cX4_scoreOf 36 = .ok (.invokestatic 161, 3) := dk_184 0 161 (dk_at dksX4_scoreOf_1 14 rfl rfl)
theorem dX4_scoreOf_39 : decode cX4_scoreOf 39 = .ok (.if_icmp .ne 7, 3) := dk_160 0 7 (dk_at dksX4_scoreOf_1 17 rfl rfl)
theorem dX4_scoreOf_42 : decode cX4_scoreOf 42 = .ok (.iconst 1, 1) := dk_4 (dk_at dksX4_scoreOf_1 20 rfl rfl)
theorem dX4_scoreOf_43 : decode cX4_scoreOf 43 = .ok (.goto 4, 3) := dk_167 0 4 (dk_at dksX4_scoreOf_1 21 rfl rfl)
theorem dX4_scoreOf_46 : decode cX4_scoreOf 46 = .ok (.iconst 0, 1) := dk_3 (dk_at dksX4_scoreOf_2 0 rfl rfl)
theorem dX4_scoreOf_47 : decode cX4_scoreOf 47 = .ok (.istore 6, 2) := dk_54 6 (dk_at dksX4_scoreOf_2 1 rfl rfl)
theorem dX4_scoreOf_49 : decode cX4_scoreOf 49 = .ok (.iload_n 3, 1) := dk_29 (dk_at dksX4_scoreOf_2 3 rfl rfl)
theorem dX4_scoreOf_50 : decode cX4_scoreOf 50 = .ok (.iload_n 2, 1) := dk_28 (dk_at dksX4_scoreOf_2 4 rfl rfl)
theorem dX4_scoreOf_51 : decode cX4_scoreOf 51 = .ok (.ifCond .eq 9, 3) := dk_153 0 9 (dk_at dksX4_scoreOf_2 5 rfl rfl)
theorem dX4_scoreOf_54 : decode cX4_scoreOf 54 = .ok (.iload_n 1, 1) := dk_27 (dk_at dksX4_scoreOf_2 8 rfl rfl)
theorem dX4_scoreOf_55 : decode cX4_scoreOf 55 = .ok (.iconst 3, 1) := dk_6 (dk_at dksX4_scoreOf_2 9 rfl rfl)
theorem dX4_scoreOf_56 : decode cX4_scoreOf 56 = .ok (.isub, 1) := dk_100 (dk_at dksX4_scoreOf_2 10 rfl rfl)
theorem dX4_scoreOf_57 : decode cX4_scoreOf 57 = .ok (.goto 4, 3) := dk_167 0 4 (dk_at dksX4_scoreOf_2 11 rfl rfl)
theorem dX4_scoreOf_60 : decode cX4_scoreOf 60 = .ok (.iload_n 1, 1) := dk_27 (dk_at dksX4_scoreOf_2 14 rfl rfl)
theorem dX4_scoreOf_61 : decode cX4_scoreOf 61 = .ok (.iload 5, 2) := dk_21 5 (dk_at dksX4_scoreOf_2 15 rfl rfl)
theorem dX4_scoreOf_63 : decode cX4_scoreOf 63 = .ok (.invokestatic 174, 3) := dk_184 0 174 (dk_at dksX4_scoreOf_2 17 rfl rfl)
theorem dX4_scoreOf_66 : decode cX4_scoreOf 66 = .ok (.ifCond .eq 7, 3) := dk_153 0 7 (dk_at dksX4_scoreOf_2 20 rfl rfl)
theorem dX4_scoreOf_69 : decode cX4_scoreOf 69 = .ok (.iconst 2, 1) := dk_5 (dk_at dksX4_scoreOf_2 23 rfl rfl)
theorem dX4_scoreOf_70 : decode cX4_scoreOf 70 = .ok (.goto 4, 3) := dk_167 0 4 (dk_at dksX4_scoreOf_3 0 rfl rfl)
theorem dX4_scoreOf_73 : decode cX4_scoreOf 73 = .ok (.iconst 0, 1) := dk_3 (dk_at dksX4_scoreOf_3 3 rfl rfl)
theorem dX4_scoreOf_74 : decode cX4_scoreOf 74 = .ok (.iadd, 1) := dk_96 (dk_at dksX4_scoreOf_3 4 rfl rfl)
theorem dX4_scoreOf_75 : decode cX4_scoreOf 75 = .ok (.istore_n 3, 1) := dk_62 (dk_at dksX4_scoreOf_3 5 rfl rfl)
theorem dX4_scoreOf_76 : decode cX4_scoreOf 76 = .ok (.iload_n 3, 1) := dk_29 (dk_at dksX4_scoreOf_3 6 rfl rfl)
theorem dX4_scoreOf_77 : decode cX4_scoreOf 77 = .ok (.iload 6, 2) := dk_21 6 (dk_at dksX4_scoreOf_3 7 rfl rfl)
theorem dX4_scoreOf_79 : decode cX4_scoreOf 79 = .ok (.ifCond .eq 7, 3) := dk_153 0 7 (dk_at dksX4_scoreOf_3 9 rfl rfl)
theorem dX4_scoreOf_82 : decode cX4_scoreOf 82 = .ok (.iconst 1, 1) := dk_4 (dk_at dksX4_scoreOf_3 12 rfl rfl)
theorem dX4_scoreOf_83 : decode cX4_scoreOf 83 = .ok (.goto 4, 3) := dk_167 0 4 (dk_at dksX4_scoreOf_3 13 rfl rfl)
theorem dX4_scoreOf_86 : decode cX4_scoreOf 86 = .ok (.iconst 0, 1) := dk_3 (dk_at dksX4_scoreOf_3 16 rfl rfl)
theorem dX4_scoreOf_87 : decode cX4_scoreOf 87 = .ok (.iadd, 1) := dk_96 (dk_at dksX4_scoreOf_3 17 rfl rfl)
theorem dX4_scoreOf_88 : decode cX4_scoreOf 88 = .ok (.istore_n 3, 1) := dk_62 (dk_at dksX4_scoreOf_3 18 rfl rfl)
theorem dX4_scoreOf_89 : decode cX4_scoreOf 89 = .ok (.iload_n 3, 1) := dk_29 (dk_at dksX4_scoreOf_3 19 rfl rfl)
theorem dX4_scoreOf_90 : decode cX4_scoreOf 90 = .ok (.iload 6, 2) := dk_21 6 (dk_at dksX4_scoreOf_3 20 rfl rfl)
theorem dX4_scoreOf_92 : decode cX4_scoreOf 92 = .ok (.ifCond .eq 26, 3) := dk_153 0 26 (dk_at dksX4_scoreOf_4 0 rfl rfl)
theorem dX4_scoreOf_95 : decode cX4_scoreOf 95 = .ok (.aload_n 0, 1) := dk_42 (dk_at dksX4_scoreOf_4 3 rfl rfl)
theorem dX4_scoreOf_96 : decode cX4_scoreOf 96 = .ok (.getfield 7, 3) := dk_180 0 7 (dk_at dksX4_scoreOf_4 4 rfl rfl)
theorem dX4_scoreOf_99 : decode cX4_scoreOf 99 = .ok (.iload 4, 2) := dk_21 4 (dk_at dksX4_scoreOf_4 7 rfl rfl)
theorem dX4_scoreOf_101 : decode cX4_scoreOf 101 = .ok (.invokestatic 94, 3) := dk_184 0 94 (dk_at dksX4_scoreOf_4 9 rfl rfl)
theorem dX4_scoreOf_104 : decode cX4_scoreOf 104 = .ok (.iconst 3, 1) := dk_6 (dk_at dksX4_scoreOf_4 12 rfl rfl)
theorem dX4_scoreOf_105 : decode cX4_scoreOf 105 = .ok (.iadd, 1) := dk_96 (dk_at dksX4_scoreOf_4 13 rfl rfl)
theorem dX4_scoreOf_106 : decode cX4_scoreOf 106 = .ok (.iaload, 1) := dk_46 (dk_at dksX4_scoreOf_4 14 rfl rfl)
theorem dX4_scoreOf_107 : decode cX4_scoreOf 107 = .ok (.invokestatic 181, 3) := dk_184 0 181 (dk_at dksX4_scoreOf_4 15 rfl rfl)
theorem dX4_scoreOf_110 : decode cX4_scoreOf 110 = .ok (.iload_n 2, 1) := dk_28 (dk_at dksX4_scoreOf_4 18 rfl rfl)
theorem dX4_scoreOf_111 : decode cX4_scoreOf 111 = .ok (.if_icmp .ne 7, 3) := dk_160 0 7 (dk_at dksX4_scoreOf_4 19 rfl rfl)
theorem dX4_scoreOf_114 : decode cX4_scoreOf 114 = .ok (.iconst 1, 1) := dk_4 (dk_at dksX4_scoreOf_4 22 rfl rfl)
theorem dX4_scoreOf_115 : decode cX4_scoreOf 115 = .ok (.goto 4, 3) := dk_167 0 4 (dk_at dksX4_scoreOf_5 0 rfl rfl)
theorem dX4_scoreOf_118 : decode cX4_scoreOf 118 = .ok (.iconst 0, 1) := dk_3 (dk_at dksX4_scoreOf_5 3 rfl rfl)
theorem dX4_scoreOf_119 : decode cX4_scoreOf 119 = .ok (.iadd, 1) := dk_96 (dk_at dksX4_scoreOf_5 4 rfl rfl)
theorem dX4_scoreOf_120 : decode cX4_scoreOf 120 = .ok (.istore_n 3, 1) := dk_62 (dk_at dksX4_scoreOf_5 5 rfl rfl)
theorem dX4_scoreOf_121 : decode cX4_scoreOf 121 = .ok (.iload_n 3, 1) := dk_29 (dk_at dksX4_scoreOf_5 6 rfl rfl)
theorem dX4_scoreOf_122 : decode cX4_scoreOf 122 = .ok (.iload 6, 2) := dk_21 6 (dk_at dksX4_scoreOf_5 7 rfl rfl)
theorem dX4_scoreOf_124 : decode cX4_scoreOf 124 = .ok (.ifCond .eq 20, 3) := dk_153 0 20 (dk_at dksX4_scoreOf_5 9 rfl rfl)
theorem dX4_scoreOf_127 : decode cX4_scoreOf 127 = .ok (.iload 4, 2) := dk_21 4 (dk_at dksX4_scoreOf_5 12 rfl rfl)
theorem dX4_scoreOf_129 : decode cX4_scoreOf 129 = .ok (.aload_n 0, 1) := dk_42 (dk_at dksX4_scoreOf_5 14 rfl rfl)
theorem dX4_scoreOf_130 : decode cX4_scoreOf 130 = .ok (.getfield 7, 3) := dk_180 0 7 (dk_at dksX4_scoreOf_5 15 rfl rfl)
theorem dX4_scoreOf_133 : decode cX4_scoreOf 133 = .ok (.iconst 1, 1) := dk_4 (dk_at dksX4_scoreOf_5 18 rfl rfl)
theorem dX4_scoreOf_134 : decode cX4_scoreOf 134 = .ok (.iaload, 1) := dk_46 (dk_at dksX4_scoreOf_5 19 rfl rfl)
theorem dX4_scoreOf_135 : decode cX4_scoreOf 135 = .ok (.iconst 1, 1) := dk_4 (dk_at dksX4_scoreOf_5 20 rfl rfl)
theorem dX4_scoreOf_136 : decode cX4_scoreOf 136 = .ok (.isub, 1) := dk_100 (dk_at dksX4_scoreOf_5 21 rfl rfl)
theorem dX4_scoreOf_137 : decode cX4_scoreOf 137 = .ok (.if_icmp .ne 7, 3) := dk_160 0 7 (dk_at dksX4_scoreOf_6 0 rfl rfl)
theorem dX4_scoreOf_140 : decode cX4_scoreOf 140 = .ok (.iconst 2, 1) := dk_5 (dk_at dksX4_scoreOf_6 3 rfl rfl)
theorem dX4_scoreOf_141 : decode cX4_scoreOf 141 = .ok (.goto 4, 3) := dk_167 0 4 (dk_at dksX4_scoreOf_6 4 rfl rfl)
theorem dX4_scoreOf_144 : decode cX4_scoreOf 144 = .ok (.iconst 0, 1) := dk_3 (dk_at dksX4_scoreOf_6 7 rfl rfl)
theorem dX4_scoreOf_145 : decode cX4_scoreOf 145 = .ok (.iadd, 1) := dk_96 (dk_at dksX4_scoreOf_6 8 rfl rfl)
theorem dX4_scoreOf_146 : decode cX4_scoreOf 146 = .ok (.istore_n 3, 1) := dk_62 (dk_at dksX4_scoreOf_6 9 rfl rfl)
theorem dX4_scoreOf_147 : decode cX4_scoreOf 147 = .ok (.iinc 4 1, 3) := dk_132 4 1 (dk_at dksX4_scoreOf_6 10 rfl rfl)
theorem dX4_scoreOf_150 : decode cX4_scoreOf 150 = .ok (.goto (-145), 3) := dk_167 255 111 (dk_at dksX4_scoreOf_6 13 rfl rfl)
theorem dX4_scoreOf_153 : decode cX4_scoreOf 153 = .ok (.iload_n 3, 1) := dk_29 (dk_at dksX4_scoreOf_6 16 rfl rfl)
theorem dX4_scoreOf_154 : decode cX4_scoreOf 154 = .ok (.ireturn, 1) := dk_172 (dk_at dksX4_scoreOf_6 17 rfl rfl)
theorem dX4_found_0 : decode cX4_found 0 = .ok (.iconst 0, 1) := dk_3 (dk_at dksX4_found_0 0 rfl rfl)
theorem dX4_found_1 : decode cX4_found 1 = .ok (.istore_n 1, 1) := dk_60 (dk_at dksX4_found_0 1 rfl rfl)
theorem dX4_found_2 : decode cX4_found 2 = .ok (.aload_n 0, 1) := dk_42 (dk_at dksX4_found_0 2 rfl rfl)
theorem dX4_found_3 : decode cX4_found 3 = .ok (.iconst 0, 1) := dk_3 (dk_at dksX4_found_0 3 rfl rfl)
theorem dX4_found_4 : decode cX4_found 4 = .ok (.iconst 0, 1) := dk_3 (dk_at dksX4_found_0 4 rfl rfl)
theorem dX4_found_5 : decode cX4_found 5 = .ok (.invokevirtual 184, 3) := dk_182 0 184 (dk_at dksX4_found_0 5 rfl rfl)
theorem dX4_found_8 : decode cX4_found 8 = .ok (.istore_n 2, 1) := dk_61 (dk_at dksX4_found_0 8 rfl rfl)
theorem dX4_found_9 : decode cX4_found 9 = .ok (.iconst 0, 1) := dk_3 (dk_at dksX4_found_0 9 rfl rfl)
theorem dX4_found_10 : decode cX4_found 10 = .ok (.istore_n 3, 1) := dk_62 (dk_at dksX4_found_0 10 rfl rfl)
theorem dX4_found_11 : decode cX4_found 11 = .ok (.iload_n 3, 1) := dk_29 (dk_at dksX4_found_0 11 rfl rfl)
theorem dX4_found_12 : decode cX4_found 12 = .ok (.iconst 2, 1) := dk_5 (dk_at dksX4_found_0 12 rfl rfl)
theorem dX4_found_13 : decode cX4_found 13 = .ok (.if_icmp .ge 92, 3) := dk_162 0 92 (dk_at dksX4_found_0 13 rfl rfl)
theorem dX4_found_16 : decode cX4_found 16 = .ok (.iconst 0, 1) := dk_3 (dk_at dksX4_found_0 16 rfl rfl)
theorem dX4_found_17 : decode cX4_found 17 = .ok (.istore 4, 2) := dk_54 4 (dk_at dksX4_found_0 17 rfl rfl)
theorem dX4_found_19 : decode cX4_found 19 = .ok (.iload 4, 2) := dk_21 4 (dk_at dksX4_found_0 19 rfl rfl)
theorem dX4_found_21 : decode cX4_found 21 = .ok (.bipush 12, 2) := dk_16 12 (dk_at dksX4_found_0 21 rfl rfl)
theorem dX4_found_23 : decode cX4_found 23 = .ok (.if_icmp .gt 76, 3) := dk_163 0 76 (dk_at dksX4_found_1 0 rfl rfl)
theorem dX4_found_26 : decode cX4_found 26 = .ok (.iload 4, 2) := dk_21 4 (dk_at dksX4_found_1 3 rfl rfl)
theorem dX4_found_28 : decode cX4_found 28 = .ok (.iconst 2, 1) := dk_5 (dk_at dksX4_found_1 5 rfl rfl)
theorem dX4_found_29 : decode cX4_found 29 = .ok (.irem, 1) := dk_112 (dk_at dksX4_found_1 6 rfl rfl)
theorem dX4_found_30 : decode cX4_found 30 = .ok (.iconst 1, 1) := dk_4 (dk_at dksX4_found_1 7 rfl rfl)
theorem dX4_found_31 : decode cX4_found 31 = .ok (.if_icmp .ne 12, 3) := dk_160 0 12 (dk_at dksX4_found_1 8 rfl rfl)
theorem dX4_found_34 : decode cX4_found 34 = .ok (.iload 4, 2) := dk_21 4 (dk_at dksX4_found_1 11 rfl rfl)
theorem dX4_found_36 : decode cX4_found 36 = .ok (.iconst 2, 1) := dk_5 (dk_at dksX4_found_1 13 rfl rfl)
theorem dX4_found_37 : decode cX4_found 37 = .ok (.idiv, 1) := dk_108 (dk_at dksX4_found_1 14 rfl rfl)
theorem dX4_found_38 : decode cX4_found 38 = .ok (.iconst 1, 1) := dk_4 (dk_at dksX4_found_1 15 rfl rfl)
theorem dX4_found_39 : decode cX4_found 39 = .ok (.iadd, 1) := dk_96 (dk_at dksX4_found_1 16 rfl rfl)
theorem dX4_found_40 : decode cX4_found 40 = .ok (.goto 8, 3) := dk_167 0 8 (dk_at dksX4_found_1 17 rfl rfl)
theorem dX4_found_43 : decode cX4_found 43 = .ok (.iload 4, 2) := dk_21 4 (dk_at dksX4_found_1 20 rfl rfl)
theorem dX4_found_45 : decode cX4_found 45 = .ok (.iconst 2, 1) := dk_5 (dk_at dksX4_found_1 22 rfl rfl)
theorem dX4_found_46 : decode cX4_found 46 = .ok (.idiv, 1) := dk_108 (dk_at dksX4_found_1 23 rfl rfl)
theorem dX4_found_47 : decode cX4_found 47 = .ok (.ineg, 1) := dk_116 (dk_at dksX4_found_2 0 rfl rfl)
theorem dX4_found_48 : decode cX4_found 48 = .ok (.istore 5, 2) := dk_54 5 (dk_at dksX4_found_2 1 rfl rfl)
theorem dX4_found_50 : decode cX4_found 50 = .ok (.iload 5, 2) := dk_21 5 (dk_at dksX4_found_2 3 rfl rfl)
theorem dX4_found_52 : decode cX4_found 52 = .ok (.iconst 3, 1) := dk_6 (dk_at dksX4_found_2 5 rfl rfl)
theorem dX4_found_53 : decode cX4_found 53 = .ok (.iload_n 3, 1) := dk_29 (dk_at dksX4_found_2 6 rfl rfl)
theorem dX4_found_54 : decode cX4_found 54 = .ok (.imul, 1) := dk_104 (dk_at dksX4_found_2 7 rfl rfl)
theorem dX4_found_55 : decode cX4_found 55 = .ok (.iadd, 1) := dk_96 (dk_at dksX4_found_2 8 rfl rfl)
theorem dX4_found_56 : decode cX4_found 56 = .ok (.istore 6, 2) := dk_54 6 (dk_at dksX4_found_2 9 rfl rfl)
theorem dX4_found_58 : decode cX4_found 58 = .ok (.aload_n 0, 1) := dk_42 (dk_at dksX4_found_2 11 rfl rfl)
theorem dX4_found_59 : decode cX4_found 59 = .ok (.iload 6, 2) := dk_21 6 (dk_at dksX4_found_2 12 rfl rfl)
theorem dX4_found_61 : decode cX4_found 61 = .ok (.iload_n 3, 1) := dk_29 (dk_at dksX4_found_2 14 rfl rfl)
theorem dX4_found_62 : decode cX4_found 62 = .ok (.iconst 1, 1) := dk_4 (dk_at dksX4_found_2 15 rfl rfl)
theorem dX4_found_63 : decode cX4_found 63 = .ok (.if_icmp .ne 7, 3) := dk_160 0 7 (dk_at dksX4_found_2 16 rfl rfl)
theorem dX4_found_66 : decode cX4_found 66 = .ok (.iconst 1, 1) := dk_4 (dk_at dksX4_found_2 19 rfl rfl)
theorem dX4_found_67 : decode cX4_found 67 = .ok (.goto 4, 3) := dk_167 0 4 (dk_at dksX4_found_2 20 rfl rfl)
theorem dX4_found_70 : decode cX4_found 70 = .ok (.iconst 0, 1) := dk_3 (dk_at dksX4_found_2 23 rfl rfl)
theorem dX4_found_71 : decode cX4_found 71 = .ok (.invokevirtual 184, 3) := dk_182 0 184 (dk_at dksX4_found_3 0 rfl rfl)
theorem dX4_found_74 : decode cX4_found 74 = .ok (.istore 7, 2) := dk_54 7 (dk_at dksX4_found_3 3 rfl rfl)
theorem dX4_found_76 : decode cX4_found 76 = .ok (.iload 7, 2) := dk_21 7 (dk_at dksX4_found_3 5 rfl rfl)
theorem dX4_found_78 : decode cX4_found 78 = .ok (.iload_n 2, 1) := dk_28 (dk_at dksX4_found_3 7 rfl rfl)
theorem dX4_found_79 : decode cX4_found 79 = .ok (.if_icmp .le 14, 3) := dk_164 0 14 (dk_at dksX4_found_3 8 rfl rfl)
theorem dX4_found_82 : decode cX4_found 82 = .ok (.iload 7, 2) := dk_21 7 (dk_at dksX4_found_3 11 rfl rfl)
theorem dX4_found_84 : decode cX4_found 84 = .ok (.istore_n 2, 1) := dk_61 (dk_at dksX4_found_3 13 rfl rfl)
theorem dX4_found_85 : decode cX4_found 85 = .ok (.iload 6, 2) := dk_21 6 (dk_at dksX4_found_3 14 rfl rfl)
theorem dX4_found_87 : decode cX4_found 87 = .ok (.bipush 100, 2) := dk_16 100 (dk_at dksX4_found_3 16 rfl rfl)
theorem dX4_found_89 : decode cX4_found 89 = .ok (.iload_n 3, 1) := dk_29 (dk_at dksX4_found_3 18 rfl rfl)
theorem dX4_found_90 : decode cX4_found 90 = .ok (.imul, 1) := dk_104 (dk_at dksX4_found_3 19 rfl rfl)
theorem dX4_found_91 : decode cX4_found 91 = .ok (.iadd, 1) := dk_96 (dk_at dksX4_found_3 20 rfl rfl)
theorem dX4_found_92 : decode cX4_found 92 = .ok (.istore_n 1, 1) := dk_60 (dk_at dksX4_found_3 21 rfl rfl)
theorem dX4_found_93 : decode cX4_found 93 = .ok (.iinc 4 1, 3) := dk_132 4 1 (dk_at dksX4_found_4 0 rfl rfl)
theorem dX4_found_96 : decode cX4_found 96 = .ok (.goto (-77), 3) := dk_167 255 179 (dk_at dksX4_found_4 3 rfl rfl)
theorem dX4_found_99 : decode cX4_found 99 = .ok (.iinc 3 1, 3) := dk_132 3 1 (dk_at dksX4_found_4 6 rfl rfl)
theorem dX4_found_102 : decode cX4_found 102 = .ok (.goto (-91), 3) := dk_167 255 165 (dk_at dksX4_found_4 9 rfl rfl)
theorem dX4_found_105 : decode cX4_found 105 = .ok (.iload_n 1, 1) := dk_27 (dk_at dksX4_found_4 12 rfl rfl)
theorem dX4_found_106 : decode cX4_found 106 = .ok (.ireturn, 1) := dk_172 (dk_at dksX4_found_4 13 rfl rfl)
theorem dX4_findKey_0 : decode cX4_findKey 0 = .ok (.aload_n 0, 1) := dk_42 (dk_at dksX4_findKey_0 0 rfl rfl)
theorem dX4_findKey_1 : decode cX4_findKey 1 = .ok (.iconst 0, 1) := dk_3 (dk_at dksX4_findKey_0 1 rfl rfl)
theorem dX4_findKey_2 : decode cX4_findKey 2 = .ok (.putfield 46, 3) := dk_181 0 46 (dk_at dksX4_findKey_0 2 rfl rfl)
theorem dX4_findKey_5 : decode cX4_findKey 5 = .ok (.aload_n 0, 1) := dk_42 (dk_at dksX4_findKey_0 5 rfl rfl)
theorem dX4_findKey_6 : decode cX4_findKey 6 = .ok (.invokevirtual 110, 3) := dk_182 0 110 (dk_at dksX4_findKey_0 6 rfl rfl)
theorem dX4_findKey_9 : decode cX4_findKey 9 = .ok (.ireturn, 1) := dk_172 (dk_at dksX4_findKey_0 9 rfl rfl)
theorem dX4_score_0 : decode cX4_score 0 = .ok (.aload_n 0, 1) := dk_42 (dk_at dksX4_score_0 0 rfl rfl)
theorem dX4_score_1 : decode cX4_score 1 = .ok (.iconst 0, 1) := dk_3 (dk_at dksX4_score_0 1 rfl rfl)
theorem dX4_score_2 : decode cX4_score 2 = .ok (.putfield 46, 3) := dk_181 0 46 (dk_at dksX4_score_0 2 rfl rfl)
theorem dX4_score_5 : decode cX4_score 5 = .ok (.iload_n 1, 1) := dk_27 (dk_at dksX4_score_0 5 rfl rfl)
theorem dX4_score_6 : decode cX4_score 6 = .ok (.iload_n 2, 1) := dk_28 (dk_at dksX4_score_0 6 rfl rfl)
theorem dX4_score_7 : decode cX4_score 7 = .ok (.invokestatic 177, 3) := dk_184 0 177 (dk_at dksX4_score_0 7 rfl rfl)
theorem dX4_score_10 : decode cX4_score 10 = .ok (.ifCond .eq 12, 3) := dk_153 0 12 (dk_at dksX4_score_0 10 rfl rfl)
theorem dX4_score_13 : decode cX4_score 13 = .ok (.aload_n 0, 1) := dk_42 (dk_at dksX4_score_0 13 rfl rfl)
theorem dX4_score_14 : decode cX4_score 14 = .ok (.iload_n 1, 1) := dk_27 (dk_at dksX4_score_0 14 rfl rfl)
theorem dX4_score_15 : decode cX4_score 15 = .ok (.iload_n 2, 1) := dk_28 (dk_at dksX4_score_0 15 rfl rfl)
theorem dX4_score_16 : decode cX4_score 16 = .ok (.invokevirtual 184, 3) := dk_182 0 184 (dk_at dksX4_score_0 16 rfl rfl)
theorem dX4_score_19 : decode cX4_score 19 = .ok (.goto 8, 3) := dk_167 0 8 (dk_at dksX4_score_0 19 rfl rfl)
theorem dX4_score_22 : decode cX4_score 22 = .ok (.aload_n 0, 1) := dk_42 (dk_at dksX4_score_0 22 rfl rfl)
theorem dX4_score_23 : decode cX4_score 23 = .ok (.iconst 1, 1) := dk_4 (dk_at dksX4_score_0 23 rfl rfl)
theorem dX4_score_24 : decode cX4_score 24 = .ok (.invokevirtual 101, 3) := dk_182 0 101 (dk_at dksX4_score_1 0 rfl rfl)
theorem dX4_score_27 : decode cX4_score 27 = .ok (.ireturn, 1) := dk_172 (dk_at dksX4_score_1 3 rfl rfl)
theorem dX4_acts_0 : decode cX4_acts 0 = .ok (.aload_n 0, 1) := dk_42 (dk_at dksX4_acts_0 0 rfl rfl)
theorem dX4_acts_1 : decode cX4_acts 1 = .ok (.getfield 49, 3) := dk_180 0 49 (dk_at dksX4_acts_0 1 rfl rfl)
theorem dX4_acts_4 : decode cX4_acts 4 = .ok (.bipush 8, 2) := dk_16 8 (dk_at dksX4_acts_0 4 rfl rfl)
theorem dX4_acts_6 : decode cX4_acts 6 = .ok (.if_icmp .ne 44, 3) := dk_160 0 44 (dk_at dksX4_acts_0 6 rfl rfl)
theorem dX4_acts_9 : decode cX4_acts 9 = .ok (.iconst 0, 1) := dk_3 (dk_at dksX4_acts_0 9 rfl rfl)
theorem dX4_acts_10 : decode cX4_acts 10 = .ok (.istore_n 1, 1) := dk_60 (dk_at dksX4_acts_0 10 rfl rfl)
theorem dX4_acts_11 : decode cX4_acts 11 = .ok (.iload_n 1, 1) := dk_27 (dk_at dksX4_acts_0 11 rfl rfl)
theorem dX4_acts_12 : decode cX4_acts 12 = .ok (.sipush 4340, 3) := dk_17 16 244 (dk_at dksX4_acts_0 12 rfl rfl)
theorem dX4_acts_15 : decode cX4_acts 15 = .ok (.if_icmp .ge 25, 3) := dk_162 0 25 (dk_at dksX4_acts_0 15 rfl rfl)
theorem dX4_acts_18 : decode cX4_acts 18 = .ok (.aload_n 0, 1) := dk_42 (dk_at dksX4_acts_0 18 rfl rfl)
theorem dX4_acts_19 : decode cX4_acts 19 = .ok (.getfield 13, 3) := dk_180 0 13 (dk_at dksX4_acts_0 19 rfl rfl)
theorem dX4_acts_22 : decode cX4_acts 22 = .ok (.iload_n 1, 1) := dk_27 (dk_at dksX4_acts_0 22 rfl rfl)
theorem dX4_acts_23 : decode cX4_acts 23 = .ok (.aload_n 0, 1) := dk_42 (dk_at dksX4_acts_0 23 rfl rfl)
theorem dX4_acts_24 : decode cX4_acts 24 = .ok (.getfield 13, 3) := dk_180 0 13 (dk_at dksX4_acts_1 0 rfl rfl)
theorem dX4_acts_27 : decode cX4_acts 27 = .ok (.iload_n 1, 1) := dk_27 (dk_at dksX4_acts_1 3 rfl rfl)
theorem dX4_acts_28 : decode cX4_acts 28 = .ok (.sipush 620, 3) := dk_17 2 108 (dk_at dksX4_acts_1 4 rfl rfl)
theorem dX4_acts_31 : decode cX4_acts 31 = .ok (.iadd, 1) := dk_96 (dk_at dksX4_acts_1 7 rfl rfl)
theorem dX4_acts_32 : decode cX4_acts 32 = .ok (.iaload, 1) := dk_46 (dk_at dksX4_acts_1 8 rfl rfl)
theorem dX4_acts_33 : decode cX4_acts 33 = .ok (.iastore, 1) := dk_79 (dk_at dksX4_acts_1 9 rfl rfl)
theorem dX4_acts_34 : decode cX4_acts 34 = .ok (.iinc 1 1, 3) := dk_132 1 1 (dk_at dksX4_acts_1 10 rfl rfl)
theorem dX4_acts_37 : decode cX4_acts 37 = .ok (.goto (-26), 3) := dk_167 255 230 (dk_at dksX4_acts_1 13 rfl rfl)
theorem dX4_acts_40 : decode cX4_acts 40 = .ok (.aload_n 0, 1) := dk_42 (dk_at dksX4_acts_1 16 rfl rfl)
theorem dX4_acts_41 : decode cX4_acts 41 = .ok (.dup, 1) := dk_89 (dk_at dksX4_acts_1 17 rfl rfl)
theorem dX4_acts_42 : decode cX4_acts 42 = .ok (.getfield 49, 3) := dk_180 0 49 (dk_at dksX4_acts_1 18 rfl rfl)
theorem dX4_acts_45 : decode cX4_acts 45 = .ok (.iconst 1, 1) := dk_4 (dk_at dksX4_acts_1 21 rfl rfl)
theorem dX4_acts_46 : decode cX4_acts 46 = .ok (.isub, 1) := dk_100 (dk_at dksX4_acts_1 22 rfl rfl)
theorem dX4_acts_47 : decode cX4_acts 47 = .ok (.putfield 49, 3) := dk_181 0 49 (dk_at dksX4_acts_2 0 rfl rfl)
theorem dX4_acts_50 : decode cX4_acts 50 = .ok (.iconst 0, 1) := dk_3 (dk_at dksX4_acts_2 3 rfl rfl)
theorem dX4_acts_51 : decode cX4_acts 51 = .ok (.istore_n 1, 1) := dk_60 (dk_at dksX4_acts_2 4 rfl rfl)
theorem dX4_acts_52 : decode cX4_acts 52 = .ok (.iload_n 1, 1) := dk_27 (dk_at dksX4_acts_2 5 rfl rfl)
theorem dX4_acts_53 : decode cX4_acts 53 = .ok (.sipush 620, 3) := dk_17 2 108 (dk_at dksX4_acts_2 6 rfl rfl)
theorem dX4_acts_56 : decode cX4_acts 56 = .ok (.if_icmp .ge 30, 3) := dk_162 0 30 (dk_at dksX4_acts_2 9 rfl rfl)
theorem dX4_acts_59 : decode cX4_acts 59 = .ok (.aload_n 0, 1) := dk_42 (dk_at dksX4_acts_2 12 rfl rfl)
theorem dX4_acts_60 : decode cX4_acts 60 = .ok (.getfield 13, 3) := dk_180 0 13 (dk_at dksX4_acts_2 13 rfl rfl)
theorem dX4_acts_63 : decode cX4_acts 63 = .ok (.sipush 620, 3) := dk_17 2 108 (dk_at dksX4_acts_2 16 rfl rfl)
theorem dX4_acts_66 : decode cX4_acts 66 = .ok (.aload_n 0, 1) := dk_42 (dk_at dksX4_acts_2 19 rfl rfl)
theorem dX4_acts_67 : decode cX4_acts 67 = .ok (.getfield 49, 3) := dk_180 0 49 (dk_at dksX4_acts_2 20 rfl rfl)
theorem dX4_acts_70 : decode cX4_acts 70 = .ok (.imul, 1) := dk_104 (dk_at dksX4_acts_2 23 rfl rfl)
theorem dX4_acts_71 : decode cX4_acts 71 = .ok (.iload_n 1, 1) := dk_27 (dk_at dksX4_acts_3 0 rfl rfl)
theorem dX4_acts_72 : decode cX4_acts 72 = .ok (.iadd, 1) := dk_96 (dk_at dksX4_acts_3 1 rfl rfl)
theorem dX4_acts_73 : decode cX4_acts 73 = .ok (.aload_n 0, 1) := dk_42 (dk_at dksX4_acts_3 2 rfl rfl)
theorem dX4_acts_74 : decode cX4_acts 74 = .ok (.getfield 7, 3) := dk_180 0 7 (dk_at dksX4_acts_3 3 rfl rfl)
theorem dX4_acts_77 : decode cX4_acts 77 = .ok (.iload_n 1, 1) := dk_27 (dk_at dksX4_acts_3 6 rfl rfl)
theorem dX4_acts_78 : decode cX4_acts 78 = .ok (.iaload, 1) := dk_46 (dk_at dksX4_acts_3 7 rfl rfl)
theorem dX4_acts_79 : decode cX4_acts 79 = .ok (.iastore, 1) := dk_79 (dk_at dksX4_acts_3 8 rfl rfl)
theorem dX4_acts_80 : decode cX4_acts 80 = .ok (.iinc 1 1, 3) := dk_132 1 1 (dk_at dksX4_acts_3 9 rfl rfl)
theorem dX4_acts_83 : decode cX4_acts 83 = .ok (.goto (-31), 3) := dk_167 255 225 (dk_at dksX4_acts_3 12 rfl rfl)
theorem dX4_acts_86 : decode cX4_acts 86 = .ok (.aload_n 0, 1) := dk_42 (dk_at dksX4_acts_3 15 rfl rfl)
theorem dX4_acts_87 : decode cX4_acts 87 = .ok (.dup, 1) := dk_89 (dk_at dksX4_acts_3 16 rfl rfl)
theorem dX4_acts_88 : decode cX4_acts 88 = .ok (.getfield 49, 3) := dk_180 0 49 (dk_at dksX4_acts_3 17 rfl rfl)
theorem dX4_acts_91 : decode cX4_acts 91 = .ok (.iconst 1, 1) := dk_4 (dk_at dksX4_acts_3 20 rfl rfl)
theorem dX4_acts_92 : decode cX4_acts 92 = .ok (.iadd, 1) := dk_96 (dk_at dksX4_acts_3 21 rfl rfl)
theorem dX4_acts_93 : decode cX4_acts 93 = .ok (.putfield 49, 3) := dk_181 0 49 (dk_at dksX4_acts_4 0 rfl rfl)
theorem dX4_acts_96 : decode cX4_acts 96 = .ok (.return_, 1) := dk_177 (dk_at dksX4_acts_4 3 rfl rfl)
theorem dX4_setKey_0 : decode cX4_setKey 0 = .ok (.aload_n 0, 1) := dk_42 (dk_at dksX4_setKey_0 0 rfl rfl)
theorem dX4_setKey_1 : decode cX4_setKey 1 = .ok (.iconst 0, 1) := dk_3 (dk_at dksX4_setKey_0 1 rfl rfl)
theorem dX4_setKey_2 : decode cX4_setKey 2 = .ok (.putfield 46, 3) := dk_181 0 46 (dk_at dksX4_setKey_0 2 rfl rfl)
theorem dX4_setKey_5 : decode cX4_setKey 5 = .ok (.iload_n 1, 1) := dk_27 (dk_at dksX4_setKey_0 5 rfl rfl)
theorem dX4_setKey_6 : decode cX4_setKey 6 = .ok (.iload_n 2, 1) := dk_28 (dk_at dksX4_setKey_0 6 rfl rfl)
theorem dX4_setKey_7 : decode cX4_setKey 7 = .ok (.invokestatic 177, 3) := dk_184 0 177 (dk_at dksX4_setKey_0 7 rfl rfl)
theorem dX4_setKey_10 : decode cX4_setKey 10 = .ok (.ifCond .ne 9, 3) := dk_154 0 9 (dk_at dksX4_setKey_0 10 rfl rfl)
theorem dX4_setKey_13 : decode cX4_setKey 13 = .ok (.aload_n 0, 1) := dk_42 (dk_at dksX4_setKey_0 13 rfl rfl)
theorem dX4_setKey_14 : decode cX4_setKey 14 = .ok (.iconst 1, 1) := dk_4 (dk_at dksX4_setKey_0 14 rfl rfl)
theorem dX4_setKey_15 : decode cX4_setKey 15 = .ok (.invokevirtual 101, 3) := dk_182 0 101 (dk_at dksX4_setKey_0 15 rfl rfl)
theorem dX4_setKey_18 : decode cX4_setKey 18 = .ok (.ireturn, 1) := dk_172 (dk_at dksX4_setKey_0 18 rfl rfl)
theorem dX4_setKey_19 : decode cX4_setKey 19 = .ok (.aload_n 0, 1) := dk_42 (dk_at dksX4_setKey_0 19 rfl rfl)
theorem dX4_setKey_20 : decode cX4_setKey 20 = .ok (.invokevirtual 107, 3) := dk_182 0 107 (dk_at dksX4_setKey_0 20 rfl rfl)
theorem dX4_setKey_23 : decode cX4_setKey 23 = .ok (.aload_n 0, 1) := dk_42 (dk_at dksX4_setKey_0 23 rfl rfl)
theorem dX4_setKey_24 : decode cX4_setKey 24 = .ok (.invokevirtual 171, 3) := dk_182 0 171 (dk_at dksX4_setKey_1 0 rfl rfl)
theorem dX4_setKey_27 : decode cX4_setKey 27 = .ok (.istore_n 3, 1) := dk_62 (dk_at dksX4_setKey_1 3 rfl rfl)
theorem dX4_setKey_28 : decode cX4_setKey 28 = .ok (.aload_n 0, 1) := dk_42 (dk_at dksX4_setKey_1 4 rfl rfl)
theorem dX4_setKey_29 : decode cX4_setKey 29 = .ok (.getfield 7, 3) := dk_180 0 7 (dk_at dksX4_setKey_1 5 rfl rfl)
theorem dX4_setKey_32 : decode cX4_setKey 32 = .ok (.iconst 2, 1) := dk_5 (dk_at dksX4_setKey_1 8 rfl rfl)
theorem dX4_setKey_33 : decode cX4_setKey 33 = .ok (.iload_n 1, 1) := dk_27 (dk_at dksX4_setKey_1 9 rfl rfl)
theorem dX4_setKey_34 : decode cX4_setKey 34 = .ok (.iastore, 1) := dk_79 (dk_at dksX4_setKey_1 10 rfl rfl)
theorem dX4_setKey_35 : decode cX4_setKey 35 = .ok (.aload_n 0, 1) := dk_42 (dk_at dksX4_setKey_1 11 rfl rfl)
theorem dX4_setKey_36 : decode cX4_setKey 36 = .ok (.getfield 7, 3) := dk_180 0 7 (dk_at dksX4_setKey_1 12 rfl rfl)
theorem dX4_setKey_39 : decode cX4_setKey 39 = .ok (.iconst 3, 1) := dk_6 (dk_at dksX4_setKey_1 15 rfl rfl)
theorem dX4_setKey_40 : decode cX4_setKey 40 = .ok (.iload_n 2, 1) := dk_28 (dk_at dksX4_setKey_1 16 rfl rfl)
theorem dX4_setKey_41 : decode cX4_setKey 41 = .ok (.ifCond .eq 7, 3) := dk_153 0 7 (dk_at dksX4_setKey_1 17 rfl rfl)
theorem dX4_setKey_44 : decode cX4_setKey 44 = .ok (.iconst 1, 1) := dk_4 (dk_at dksX4_setKey_1 20 rfl rfl)
theorem dX4_setKey_45 : decode cX4_setKey 45 = .ok (.goto 4, 3) := dk_167 0 4 (dk_at dksX4_setKey_1 21 rfl rfl)
theorem dX4_setKey_48 : decode cX4_setKey 48 = .ok (.iconst 0, 1) := dk_3 (dk_at dksX4_setKey_2 0 rfl rfl)
theorem dX4_setKey_49 : decode cX4_setKey 49 = .ok (.iastore, 1) := dk_79 (dk_at dksX4_setKey_2 1 rfl rfl)
theorem dX4_setKey_50 : decode cX4_setKey 50 = .ok (.iload_n 3, 1) := dk_29 (dk_at dksX4_setKey_2 2 rfl rfl)
theorem dX4_setKey_51 : decode cX4_setKey 51 = .ok (.ireturn, 1) := dk_172 (dk_at dksX4_setKey_2 3 rfl rfl)
theorem dX4_undo_0 : decode cX4_undo 0 = .ok (.aload_n 0, 1) := dk_42 (dk_at dksX4_undo_0 0 rfl rfl)
theorem dX4_undo_1 : decode cX4_undo 1 = .ok (.iconst 0, 1) := dk_3 (dk_at dksX4_undo_0 1 rfl rfl)
theorem dX4_undo_2 : decode cX4_undo 2 = .ok (.putfield 46, 3) := dk_181 0 46 (dk_at dksX4_undo_0 2 rfl rfl)
theorem dX4_undo_5 : decode cX4_undo 5 = .ok (.aload_n 0, 1) := dk_42 (dk_at dksX4_undo_0 5 rfl rfl)
theorem dX4_undo_6 : decode cX4_undo 6 = .ok (.getfield 49, 3) := dk_180 0 49 (dk_at dksX4_undo_0 6 rfl rfl)
theorem dX4_undo_9 : decode cX4_undo 9 = .ok (.ifCond .ne 9, 3) := dk_154 0 9 (dk_at dksX4_undo_0 9 rfl rfl)
theorem dX4_undo_12 : decode cX4_undo 12 = .ok (.aload_n 0, 1) := dk_42 (dk_at dksX4_undo_0 12 rfl rfl)
theorem dX4_undo_13 : decode cX4_undo 13 = .ok (.iconst 1, 1) := dk_4 (dk_at dksX4_undo_0 13 rfl rfl)
theorem dX4_undo_14 : decode cX4_undo 14 = .ok (.invokevirtual 101, 3) := dk_182 0 101 (dk_at dksX4_undo_0 14 rfl rfl)
theorem dX4_undo_17 : decode cX4_undo 17 = .ok (.ireturn, 1) := dk_172 (dk_at dksX4_undo_0 17 rfl rfl)
theorem dX4_undo_18 : decode cX4_undo 18 = .ok (.aload_n 0, 1) := dk_42 (dk_at dksX4_undo_0 18 rfl rfl)
theorem dX4_undo_19 : decode cX4_undo 19 = .ok (.dup, 1) := dk_89 (dk_at dksX4_undo_0 19 rfl rfl)
theorem dX4_undo_20 : decode cX4_undo 20 = .ok (.getfield 49, 3) := dk_180 0 49 (dk_at dksX4_undo_0 20 rfl rfl)
theorem dX4_undo_23 : decode cX4_undo 23 = .ok (.iconst 1, 1) := dk_4 (dk_at dksX4_undo_0 23 rfl rfl)
theorem dX4_undo_24 : decode cX4_undo 24 = .ok (.isub, 1) := dk_100 (dk_at dksX4_undo_1 0 rfl rfl)
theorem dX4_undo_25 : decode cX4_undo 25 = .ok (.putfield 49, 3) := dk_181 0 49 (dk_at dksX4_undo_1 1 rfl rfl)
theorem dX4_undo_28 : decode cX4_undo 28 = .ok (.iconst 0, 1) := dk_3 (dk_at dksX4_undo_1 4 rfl rfl)
theorem dX4_undo_29 : decode cX4_undo 29 = .ok (.istore_n 1, 1) := dk_60 (dk_at dksX4_undo_1 5 rfl rfl)
theorem dX4_undo_30 : decode cX4_undo 30 = .ok (.iload_n 1, 1) := dk_27 (dk_at dksX4_undo_1 6 rfl rfl)
theorem dX4_undo_31 : decode cX4_undo 31 = .ok (.sipush 620, 3) := dk_17 2 108 (dk_at dksX4_undo_1 7 rfl rfl)
theorem dX4_undo_34 : decode cX4_undo 34 = .ok (.if_icmp .ge 30, 3) := dk_162 0 30 (dk_at dksX4_undo_1 10 rfl rfl)
theorem dX4_undo_37 : decode cX4_undo 37 = .ok (.aload_n 0, 1) := dk_42 (dk_at dksX4_undo_1 13 rfl rfl)
theorem dX4_undo_38 : decode cX4_undo 38 = .ok (.getfield 7, 3) := dk_180 0 7 (dk_at dksX4_undo_1 14 rfl rfl)
theorem dX4_undo_41 : decode cX4_undo 41 = .ok (.iload_n 1, 1) := dk_27 (dk_at dksX4_undo_1 17 rfl rfl)
theorem dX4_undo_42 : decode cX4_undo 42 = .ok (.aload_n 0, 1) := dk_42 (dk_at dksX4_undo_1 18 rfl rfl)
theorem dX4_undo_43 : decode cX4_undo 43 = .ok (.getfield 13, 3) := dk_180 0 13 (dk_at dksX4_undo_1 19 rfl rfl)
theorem dX4_undo_46 : decode cX4_undo 46 = .ok (.sipush 620, 3) := dk_17 2 108 (dk_at dksX4_undo_2 0 rfl rfl)
theorem dX4_undo_49 : decode cX4_undo 49 = .ok (.aload_n 0, 1) := dk_42 (dk_at dksX4_undo_2 3 rfl rfl)
theorem dX4_undo_50 : decode cX4_undo 50 = .ok (.getfield 49, 3) := dk_180 0 49 (dk_at dksX4_undo_2 4 rfl rfl)
theorem dX4_undo_53 : decode cX4_undo 53 = .ok (.imul, 1) := dk_104 (dk_at dksX4_undo_2 7 rfl rfl)
theorem dX4_undo_54 : decode cX4_undo 54 = .ok (.iload_n 1, 1) := dk_27 (dk_at dksX4_undo_2 8 rfl rfl)
theorem dX4_undo_55 : decode cX4_undo 55 = .ok (.iadd, 1) := dk_96 (dk_at dksX4_undo_2 9 rfl rfl)
theorem dX4_undo_56 : decode cX4_undo 56 = .ok (.iaload, 1) := dk_46 (dk_at dksX4_undo_2 10 rfl rfl)
theorem dX4_undo_57 : decode cX4_undo 57 = .ok (.iastore, 1) := dk_79 (dk_at dksX4_undo_2 11 rfl rfl)
theorem dX4_undo_58 : decode cX4_undo 58 = .ok (.iinc 1 1, 3) := dk_132 1 1 (dk_at dksX4_undo_2 12 rfl rfl)
theorem dX4_undo_61 : decode cX4_undo 61 = .ok (.goto (-31), 3) := dk_167 255 225 (dk_at dksX4_undo_2 15 rfl rfl)
theorem dX4_undo_64 : decode cX4_undo 64 = .ok (.aload_n 0, 1) := dk_42 (dk_at dksX4_undo_2 18 rfl rfl)
theorem dX4_undo_65 : decode cX4_undo 65 = .ok (.getfield 49, 3) := dk_180 0 49 (dk_at dksX4_undo_2 19 rfl rfl)
theorem dX4_undo_68 : decode cX4_undo 68 = .ok (.ireturn, 1) := dk_172 (dk_at dksX4_undo_2 22 rfl rfl)
theorem q2083 : (Jvm.Cond.fieldLink "ChordSheetModel" (13 : Nat) "ChordSheetModel" "past" "[I") ∈ lw_all := lw_g (lw_at lw_m9 101 rfl) rfl
theorem q2084 : (Jvm.Cond.fieldLink "ChordSheetModel" (49 : Nat) "ChordSheetModel" "states" "I") ∈ lw_all := lw_g (lw_at lw_m9 102 rfl) rfl
theorem q2206 : (Jvm.Cond.methodLink "ChordSheetModel" (107 : Nat) ({ cls := "ChordSheetModel", name := "acts", desc := "()V" } : Jvm.MethodName)) ∈ lw_all := lw_g (lw_at lw_m9 224 rfl) rfl
theorem q2208 : (Jvm.Cond.instanceMethod ({ cls := "ChordSheetModel", name := "acts", desc := "()V" } : Jvm.MethodName)) ∈ lw_all := lw_g (lw_at lw_m9 226 rfl) rfl
theorem q2209 : (Jvm.Cond.code ({ cls := "ChordSheetModel", name := "acts", desc := "()V" } : Jvm.MethodName) prog_11_method_5_code (2 : Nat) (Option.none : Option Jvm.ClassFile.FieldType)) ∈ lw_all := lw_g (lw_at lw_m9 227 rfl) rfl
theorem q2210 : (Jvm.Cond.methodLink "ChordSheetModel" (110 : Nat) ({ cls := "ChordSheetModel", name := "found", desc := "()I" } : Jvm.MethodName)) ∈ lw_all := lw_g (lw_at lw_m9 228 rfl) rfl
theorem q2212 : (Jvm.Cond.instanceMethod ({ cls := "ChordSheetModel", name := "found", desc := "()I" } : Jvm.MethodName)) ∈ lw_all := lw_g (lw_at lw_m9 230 rfl) rfl
theorem q2213 : (Jvm.Cond.code ({ cls := "ChordSheetModel", name := "found", desc := "()I" } : Jvm.MethodName) prog_11_method_62_code (8 : Nat) (Option.some Jvm.ClassFile.FieldType.int)) ∈ lw_all := lw_g (lw_at lw_m9 231 rfl) rfl
theorem q2214 : (Jvm.Cond.methodLink "ChordSheetModel" (184 : Nat) ({ cls := "ChordSheetModel", name := "scoreOf", desc := "(IZ)I" } : Jvm.MethodName)) ∈ lw_all := lw_g (lw_at lw_m9 232 rfl) rfl
theorem q2216 : (Jvm.Cond.instanceMethod ({ cls := "ChordSheetModel", name := "scoreOf", desc := "(IZ)I" } : Jvm.MethodName)) ∈ lw_all := lw_g (lw_at lw_m9 234 rfl) rfl
theorem q2217 : (Jvm.Cond.code ({ cls := "ChordSheetModel", name := "scoreOf", desc := "(IZ)I" } : Jvm.MethodName) prog_11_method_60_code (7 : Nat) (Option.some Jvm.ClassFile.FieldType.int)) ∈ lw_all := lw_g (lw_at lw_m9 235 rfl) rfl
theorem q2218 : (Jvm.Cond.methodLink "ChordSheetModel" (161 : Nat) ({ cls := "ChordSheetModel", name := "pitch", desc := "(I)I" } : Jvm.MethodName)) ∈ lw_all := lw_g (lw_at lw_m9 236 rfl) rfl
theorem q2219 : (Jvm.Cond.static ({ cls := "ChordSheetModel", name := "pitch", desc := "(I)I" } : Jvm.MethodName)) ∈ lw_all := lw_g (lw_at lw_m9 237 rfl) rfl
theorem q2220 : (Jvm.Cond.code ({ cls := "ChordSheetModel", name := "pitch", desc := "(I)I" } : Jvm.MethodName) prog_11_method_8_code (1 : Nat) (Option.some Jvm.ClassFile.FieldType.int)) ∈ lw_all := lw_g (lw_at lw_m9 238 rfl) rfl
theorem q2224 : (Jvm.Cond.methodLink "ChordSheetModel" (174 : Nat) ({ cls := "ChordSheetModel", name := "isInScale", desc := "(II)Z" } : Jvm.MethodName)) ∈ lw_all := lw_g (lw_at lw_m10 2 rfl) rfl
theorem q2225 : (Jvm.Cond.static ({ cls := "ChordSheetModel", name := "isInScale", desc := "(II)Z" } : Jvm.MethodName)) ∈ lw_all := lw_g (lw_at lw_m10 3 rfl) rfl
theorem q2226 : (Jvm.Cond.code ({ cls := "ChordSheetModel", name := "isInScale", desc := "(II)Z" } : Jvm.MethodName) prog_11_method_51_code (4 : Nat) (Option.some Jvm.ClassFile.FieldType.boolean)) ∈ lw_all := lw_g (lw_at lw_m10 4 rfl) rfl
theorem q2227 : (Jvm.Cond.methodLink "ChordSheetModel" (181 : Nat) ({ cls := "ChordSheetModel", name := "isMinorChord", desc := "(I)Z" } : Jvm.MethodName)) ∈ lw_all := lw_g (lw_at lw_m10 5 rfl) rfl
theorem q2228 : (Jvm.Cond.static ({ cls := "ChordSheetModel", name := "isMinorChord", desc := "(I)Z" } : Jvm.MethodName)) ∈ lw_all := lw_g (lw_at lw_m10 6 rfl) rfl
theorem q2229 : (Jvm.Cond.code ({ cls := "ChordSheetModel", name := "isMinorChord", desc := "(I)Z" } : Jvm.MethodName) prog_11_method_59_code (1 : Nat) (Option.some Jvm.ClassFile.FieldType.boolean)) ∈ lw_all := lw_g (lw_at lw_m10 7 rfl) rfl
theorem q2385 : (Jvm.Cond.methodLink "ChordSheetModel" (177 : Nat) ({ cls := "ChordSheetModel", name := "isKey", desc := "(IZ)Z" } : Jvm.MethodName)) ∈ lw_all := lw_g (lw_at lw_m10 163 rfl) rfl
theorem q2386 : (Jvm.Cond.static ({ cls := "ChordSheetModel", name := "isKey", desc := "(IZ)Z" } : Jvm.MethodName)) ∈ lw_all := lw_g (lw_at lw_m10 164 rfl) rfl
theorem q2387 : (Jvm.Cond.code ({ cls := "ChordSheetModel", name := "isKey", desc := "(IZ)Z" } : Jvm.MethodName) prog_11_method_57_code (2 : Nat) (Option.some Jvm.ClassFile.FieldType.boolean)) ∈ lw_all := lw_g (lw_at lw_m10 165 rfl) rfl
def iscl (s p : Int) : Int := if plf (s - 1) p ≤ s + 5 then 1 else 0
theorem iscl_c (t m p : Int) : iscl (sgn t m) p = insc t m p := by
  unfold iscl insc
  rw [show sgn t m - 1 + 6 = sgn t m + 5 by omega]
theorem iscl_r (s p : Int) : iscl s p = 0 ∨ iscl s p = 1 := by unfold iscl; split <;> omega
/-- copies of rows of numbers -/
theorem vS.ext {V V' : Nat → Int} {S : zSh} (hs : shL S) (he : ∀ k, k < 620 → V' k = V k) (h : vS V S) : vS V' S := by
  obtain ⟨h1, h2, h3, h4, h5, h6, h7⟩ := h
  obtain ⟨l1, l2, l3⟩ := hs
  refine ⟨by rw [he _ (by decide)]; exact h1, by rw [he _ (by decide)]; exact h2, by rw [he _ (by decide)]; exact h3, by rw [he _ (by decide)]; exact h4, fun j hj => by rw [he _ (by omega)]; exact h5 j hj, fun i x hx => ?_, fun j d hd => ?_⟩
  · have hi := (List.getElem?_eq_some_iff.mp hx).1
    obtain ⟨a1, a2, a3, a4, a5⟩ := h6 i x hx
    exact ⟨by rw [he _ (by omega)]; exact a1, by rw [he _ (by omega)]; exact a2, by rw [he _ (by omega)]; exact a3, by rw [he _ (by omega)]; exact a4, by rw [he _ (by omega)]; exact a5⟩
  · have hj := (List.getElem?_eq_some_iff.mp hd).1
    rw [List.length_flatten] at hj
    rw [he _ (by unfold lsm at l1; omega)]
    exact h7 j d hd
theorem vS.key {V : Nat → Int} {S : zSh} {t m : Int} (hs : shL S) (h : vS V S) : vS (updI (updI V 2 t) 3 m) (S.ls, S.cs, t, m) := by
  obtain ⟨h1, h2, h3, h4, h5, h6, h7⟩ := h
  have he : ∀ k, k ≠ 2 → k ≠ 3 → updI (updI V 2 t) 3 m k = V k := fun k a b => by unfold updI; rw [if_neg b, if_neg a]
  refine ⟨by rw [he _ (by decide) (by decide)]; exact h1, by rw [he _ (by decide) (by decide)]; exact h2, rfl, rfl, fun j hj => by rw [he _ (by omega) (by omega)]; exact h5 j hj, fun i x hx => ?_, fun j d hd => by rw [he _ (by omega) (by omega)]; exact h7 j d hd⟩
  obtain ⟨a1, a2, a3, a4, a5⟩ := h6 i x hx
  exact ⟨by rw [he _ (by omega) (by omega)]; exact a1, by rw [he _ (by omega) (by omega)]; exact a2, by rw [he _ (by omega) (by omega)]; exact a3, by rw [he _ (by omega) (by omega)]; exact a4, by rw [he _ (by omega) (by omega)]; exact a5⟩
def hiP (hi : List zSh) (S : zSh) : List zSh := (if hi.length = 8 then hi.drop 1 else hi) ++ [S]
theorem pS.push {P P' : Nat → Int} {hi : List zSh} {V : Nat → Int} {S : zSh} (hh : ∀ S ∈ hi, shL S) (hs : shL S) (hP : pS P hi) (hV : vS V S) (hl : hi.length < 8) (e1 : ∀ j, j < 620 * hi.length → P' j = P j) (e2 : ∀ k, k < 620 → P' (620 * hi.length + k) = V k) : pS P' (hi ++ [S]) := by
  intro i T hT
  have hi' := (List.getElem?_eq_some_iff.mp hT).1
  simp at hi'
  by_cases q : i < hi.length
  · rw [List.getElem?_append_left q] at hT
    exact (hP i T hT).ext (hh T (List.mem_of_getElem? hT)) fun k hk => e1 _ (by omega)
  · rw [List.getElem?_append_right (by omega), show i - hi.length = 0 by omega] at hT
    simp at hT
    subst hT
    rw [show i = hi.length by omega]
    exact hV.ext hs fun k hk => e2 k hk
theorem pS.shift {P P' : Nat → Int} {hi : List zSh} (hh : ∀ S ∈ hi, shL S) (hP : pS P hi) (hl : hi.length = 8) (e : ∀ j, j < 4340 → P' j = P (j + 620)) : pS P' (hi.drop 1) := by
  intro i T hT
  rw [List.getElem?_drop] at hT
  have hi' := (List.getElem?_eq_some_iff.mp hT).1
  refine (hP (1 + i) T hT).ext (hh T (List.mem_of_getElem? hT)) fun k hk => ?_
  show P' (620 * i + k) = P (620 * (1 + i) + k)
  rw [e _ (by omega)]
  congr 1
  omega
theorem isc_st {s p k z z' : Int} (hk : s - 1 ≤ k ∧ k ≤ s + 5) (hp : 0 ≤ p ∧ p < 12) (hz : z = if plf (s - 1) p < k then 1 else 0) (h : (z' = 0 ∧ z = 0 ∧ pcl k ≠ p) ∨ (z' = 1 ∧ (z ≠ 0 ∨ pcl k = p))) : z' = if plf (s - 1) p < k + 1 then 1 else 0 := by
  have h1 : (pcl k = p) ↔ plf (s - 1) p = k := by unfold pcl plf; omega
  split at hz <;> split <;> omega
theorem isc_en {s p k z : Int} (hk : s + 5 < k ∧ k ≤ s + 6) (hz : z = if plf (s - 1) p < k then 1 else 0) : z = iscl s p := by
  unfold iscl
  split at hz <;> split <;> omega
theorem iI_wrap (x : Int) : iI x = iI (x + 4294967296) := by
  rw [← iI_add, show iI 4294967296 = (0 : Int32) from by decide, Int32.add_zero]
theorem fnd_in {cs : List zCh} {md bt bm : Int} (hmd : 0 ≤ md ∧ md ≤ 2) (h : md < 2) (hE : (if md = 0 then lgi cs 1 3 13 0 (lgi cs 0 0 13 0 (bt, bm)) else if md = 1 then lgi cs 1 3 13 0 (bt, bm) else (bt, bm)) = lik cs) : (if md = 0 then lgi cs 1 3 13 0 (lgi cs 0 0 (13 - (0 : Int).toNat) 0 (bt, bm)) else lgi cs 1 3 (13 - (0 : Int).toNat) 0 (bt, bm)) = lik cs := by
  by_cases c : md = 0
  · rw [if_pos c] at hE ⊢; exact hE
  · rw [if_neg c, if_pos (by omega)] at hE
    rw [if_neg c]; exact hE
theorem fnd_md {cs : List zCh} {md ct cm k : Int} (hmd : 0 ≤ md ∧ md ≤ 2) (h : md < 2 ∧ 13 ≤ k) (hE : (if md = 0 then lgi cs 1 3 13 0 (lgi cs 0 0 (13 - k.toNat) k (ct, cm)) else lgi cs 1 3 (13 - k.toNat) k (ct, cm)) = lik cs) : (if md + 1 = 0 then lgi cs 1 3 13 0 (lgi cs 0 0 13 0 (ct, cm)) else if md + 1 = 1 then lgi cs 1 3 13 0 (ct, cm) else (ct, cm)) = lik cs := by
  rw [show 13 - k.toNat = 0 by omega] at hE
  rw [if_neg (by omega)]
  by_cases c : md = 0
  · rw [if_pos c, lgi] at hE; rw [if_pos (by omega)]; exact hE
  · rw [if_neg c, lgi] at hE; rw [if_neg (by omega)]; exact hE
theorem lgi_1 {cs : List zCh} {md ad k ct cm ct' cm' : Int} (hk : 0 ≤ k ∧ k < 13) (hc : ((ct', cm') = (sgk k + ad, md) ∧ scl ct cm cs < scl (sgk k + ad) md cs) ∨ ((ct', cm') = (ct, cm) ∧ ¬ scl ct cm cs < scl (sgk k + ad) md cs)) : lgi cs md ad (13 - k.toNat) k (ct, cm) = lgi cs md ad (13 - (k + 1).toNat) (k + 1) (ct', cm') := by
  rw [show 13 - k.toNat = (13 - (k + 1).toNat) + 1 by omega]
  show lgi cs md ad (13 - (k + 1).toNat) (k + 1) (if scl ct cm cs < scl (sgk k + ad) md cs then (sgk k + ad, md) else (ct, cm)) = _
  rcases hc with ⟨e, h⟩ | ⟨e, h⟩
  · rw [if_pos h, e]
  · rw [if_neg h, e]
theorem fnd_st {cs : List zCh} {md ct cm k ct' cm' : Int} (hk : 0 ≤ k ∧ k ≤ 13) (h : k < 13) (hmd : 0 ≤ md ∧ md < 2) (hE : (if md = 0 then lgi cs 1 3 13 0 (lgi cs 0 0 (13 - k.toNat) k (ct, cm)) else lgi cs 1 3 (13 - k.toNat) k (ct, cm)) = lik cs) (hc : ((ct', cm') = (sgk k + 3 * md, md) ∧ scl ct cm cs < scl (sgk k + 3 * md) md cs) ∨ ((ct', cm') = (ct, cm) ∧ ¬ scl ct cm cs < scl (sgk k + 3 * md) md cs)) : (if md = 0 then lgi cs 1 3 13 0 (lgi cs 0 0 (13 - (k + 1).toNat) (k + 1) (ct', cm')) else lgi cs 1 3 (13 - (k + 1).toNat) (k + 1) (ct', cm')) = lik cs := by
  by_cases c : md = 0
  · subst c
    rw [if_pos rfl] at hE ⊢
    simp only [Int.mul_zero] at hc
    rw [lgi_1 ⟨hk.1, h⟩ hc] at hE
    exact hE
  · have c1 : md = 1 := by omega
    subst c1
    rw [if_neg c] at hE ⊢
    rw [show (3 : Int) * 1 = 3 by omega] at hc
    rw [lgi_1 ⟨hk.1, h⟩ hc] at hE
    exact hE
theorem cpy_st1 {P P1 : Nat → Int} {k : Int} (hk : 0 ≤ k) (hq : ∀ j, P1 j = if j < k.toNat then P (j + 620) else P j) : ∀ j, updI P1 (Int.toNat k) (P1 (Int.toNat (k + 620))) j = if j < (k + 1).toNat then P (j + 620) else P j := by
  intro j
  unfold updI
  by_cases c : j = k.toNat
  · rw [if_pos c, if_pos (by omega), hq, if_neg (by omega), c]
    congr 1
    omega
  · rw [if_neg c, hq]
    by_cases d : j < k.toNat
    · rw [if_pos d, if_pos (by omega)]
    · rw [if_neg d, if_neg (by omega)]
theorem cpy_st2 {V P0 P2 : Nat → Int} {n : Nat} {k : Int} (hk : 0 ≤ k) (hq : ∀ j, P2 j = if 620 * n ≤ j ∧ j < 620 * n + k.toNat then V (j - 620 * n) else P0 j) : ∀ j, updI P2 (Int.toNat (620 * ((n : Nat) : Int) + k)) (V (Int.toNat k)) j = if 620 * n ≤ j ∧ j < 620 * n + (k + 1).toNat then V (j - 620 * n) else P0 j := by
  intro j
  unfold updI
  by_cases c : j = (620 * ((n : Nat) : Int) + k).toNat
  · rw [if_pos c, if_pos (by omega)]
    congr 1
    omega
  · rw [if_neg c, hq]
    by_cases d : 620 * n ≤ j ∧ j < 620 * n + k.toNat
    · rw [if_pos d, if_pos (by omega)]
    · rw [if_neg d, if_neg (by omega)]
theorem hiP_l {hi : List zSh} {S : zSh} (h : hi.length ≤ 8) : (hiP hi S).length ≤ 8 := by
  unfold hiP
  split <;> simp <;> omega
theorem hiP_m {φ : zSh → Prop} {hi : List zSh} {S : zSh} (h : ∀ T ∈ hi, φ T) (hs : φ S) : ∀ T ∈ hiP hi S, φ T := by
  intro T hT
  unfold hiP at hT
  rcases List.mem_append.mp hT with g | g
  · split at g
    · exact h T (List.mem_of_mem_drop g)
    · exact h T g
  · rw [List.mem_singleton.mp g]; exact hs
theorem kp_hi (σ : zSt) : σ.kp.hi = hiP σ.hi σ.sh := rfl
theorem cpy_st3 {P V V1 : Nat → Int} {n : Nat} {k : Int} (hk : 0 ≤ k) (hq : ∀ j, V1 j = if j < k.toNat then P (620 * n + j) else V j) : ∀ j, updI V1 (Int.toNat k) (P (Int.toNat (620 * ((n : Nat) : Int) + k))) j = if j < (k + 1).toNat then P (620 * n + j) else V j := by
  intro j
  unfold updI
  by_cases c : j = k.toNat
  · rw [if_pos c, if_pos (by omega)]
    congr 1
    omega
  · rw [if_neg c, hq]
    by_cases d : j < k.toNat
    · rw [if_pos d, if_pos (by omega)]
    · rw [if_neg d, if_neg (by omega)]
set_option maxHeartbeats 4000000 in
theorem m_scale {l : Launch} (hl : l.stackTraces = false) {Γ : zCx} {h : zH} {s p : Int} (hs : -1000 ≤ s ∧ s ≤ 1000) (hp : 0 ≤ p ∧ p < 12)  : zMet l yX4_isInScale (ws_ yX4_isInScale cX4_isInScale 4 (some .boolean)) ({ frames := 2, cells := 0, slots := 0, locals := 40 }) Γ h [.int (iI s), .int (iI p)] (zpure h (some (.int (iI (iscl s p))))) 0 0 := by
  refine zMet.of (cc := cX4_isInScale) hl (plainFor_of_name (by decide +kernel)) (Nat.le_of_ble_eq_true rfl) ?_
  intro X hXl hXΓ hXp C hnm hnL
  have C : zC X cX4_isInScale RX4 (some .boolean) 2 40 [] := C
  have hnL : X.2.1.2.2.2.2 = 4 := hnL
  subst hXl hXΓ
  show Z X h 0 0 [(0, .int (iI s)), (1, .int (iI p))] 0 []
  refine z_iconst (pc := 0) C dX4_isInScale_0 ?_
  refine z_istore_n (pc := 1) (L' := [(2, .int (iI 0)), (0, .int (iI s)), (1, .int (iI p))]) C dX4_isInScale_1 rfl (by rw [hnL]; decide) rfl ?_
  refine z_iload_n (pc := 2) (j := 1) C dX4_isInScale_2 rfl rfl ?_
  refine z_iconst (pc := 3) C dX4_isInScale_3 ?_
  refine z_isub (pc := 4) C dX4_isInScale_4 ?_
  refine z_istore_n (pc := 5) (L' := [(3, .int (iI (s - 1))), (2, .int (iI 0)), (0, .int (iI s)), (1, .int (iI p))]) C dX4_isInScale_5 rfl (by rw [hnL]; decide) rfl ?_
  have loop6 : ∀ (n6 : Nat) (k : Int) (z : Int), (s - 1 ≤ k ∧ k ≤ s + 6) → (z = if plf (s - 1) p < k then 1 else 0) → ((s + 6 - k).toNat) = n6 → Z X h 0 0 [(3, .int (iI k)), (2, .int (iI z)), (1, .int (iI p)), (0, .int (iI s))] 6 [] := by
    intro n6
    induction n6 using Nat.strongRecOn with
    | ind n6 ih6 =>
    intro k z hk hz hn6
    refine z_iload_n (pc := 6) (j := 0) C dX4_isInScale_6 rfl rfl ?_
    refine z_iload_n (pc := 7) (j := 3) C dX4_isInScale_7 rfl rfl ?_
    refine z_iconst (pc := 8) C dX4_isInScale_8 ?_
    refine z_iadd (pc := 9) C dX4_isInScale_9 ?_
    refine z_icmp_gt (pc := 10) (tgt := 37) C dX4_isInScale_10 (by decide) (by omega) (by omega) (fun c10 => ?_) (fun c10 => ?_)
    · refine z_iload_n (pc := 37) (j := 1) C dX4_isInScale_37 rfl rfl ?_
      exact z_zreturn (pc := 38) C (i_nz (by rw [hz]; split <;> decide) (by rw [hz]; split <;> decide)) (by rw [hXp]; exact zpure_i (isc_en (by omega) hz) rfl) dX4_isInScale_38
    · refine z_iload_n (pc := 13) (j := 1) C dX4_isInScale_13 rfl rfl ?_
      refine z_if_ne (pc := 14) (tgt := 25) C dX4_isInScale_14 (by decide) (by rw [hz]; split <;> decide) (fun c14 => ?_) (fun c14 => ?_)
      · refine z_iconst (pc := 25) C dX4_isInScale_25 ?_
        refine z_goto (pc := 26) (tgt := 30) C dX4_isInScale_26 (by decide) ?_
        refine z_istore_n (pc := 30) (L' := [(2, .int (iI 1)), (3, .int (iI k)), (1, .int (iI p)), (0, .int (iI s))]) C dX4_isInScale_30 rfl (by rw [hnL]; decide) rfl ?_
        refine z_iinc (pc := 31) (k := 1) (L' := [(3, .int (iI (k + 1))), (2, .int (iI 1)), (1, .int (iI p)), (0, .int (iI s))]) C dX4_isInScale_31 rfl (by rw [hnL]; decide) rfl ?_
        refine z_goto (pc := 34) (tgt := 6) C dX4_isInScale_34 (by decide) ?_
        refine Z.weak (L' := [(3, .int (iI (k + 1))), (2, .int (iI 1)), (1, .int (iI p)), (0, .int (iI s))]) (kc' := 0) (ks' := 0) [0, 1, 2, 3] rfl (by omega) (by omega) ?_
        exact ih6 _ (by omega) (k + 1) 1 (by omega) (isc_st (by omega) (by omega) hz (Or.inr ⟨rfl, by omega⟩)) rfl
      · refine z_iload_n (pc := 17) (j := 0) C dX4_isInScale_17 rfl rfl ?_
        refine z_callS (pc := 18) (n := 1) (kc' := 0) (ks' := 0) C (m_pitch C.t (x := k) (by omega)) (lw_S q2218 q2219 q74 q2220) (by decide +kernel) ⟨by decide, by decide⟩ rfl rfl (Nat.le_of_ble_eq_true rfl) dX4_isInScale_18 (by omega) (by omega) (zpk (st' := [.int (iI (pcl k))]) rfl ?_) zrx
        have hpcl21 := pcl_r k
        refine z_iload_n (pc := 21) (j := 2) C dX4_isInScale_21 rfl rfl ?_
        refine z_icmp_ne (pc := 22) (tgt := 29) C dX4_isInScale_22 (by decide) (by omega) (by omega) (fun c22 => ?_) (fun c22 => ?_)
        · refine z_iconst (pc := 29) C dX4_isInScale_29 ?_
          refine z_istore_n (pc := 30) (L' := [(2, .int (iI 0)), (3, .int (iI k)), (1, .int (iI p)), (0, .int (iI s))]) C dX4_isInScale_30 rfl (by rw [hnL]; decide) rfl ?_
          refine z_iinc (pc := 31) (k := 1) (L' := [(3, .int (iI (k + 1))), (2, .int (iI 0)), (1, .int (iI p)), (0, .int (iI s))]) C dX4_isInScale_31 rfl (by rw [hnL]; decide) rfl ?_
          refine z_goto (pc := 34) (tgt := 6) C dX4_isInScale_34 (by decide) ?_
          refine Z.weak (L' := [(3, .int (iI (k + 1))), (2, .int (iI 0)), (1, .int (iI p)), (0, .int (iI s))]) (kc' := 0) (ks' := 0) [0, 1, 2, 3] rfl (by omega) (by omega) ?_
          exact ih6 _ (by omega) (k + 1) 0 (by omega) (isc_st (by omega) (by omega) hz (Or.inl ⟨rfl, by omega, by omega⟩)) rfl
        · refine z_iconst (pc := 25) C dX4_isInScale_25 ?_
          refine z_goto (pc := 26) (tgt := 30) C dX4_isInScale_26 (by decide) ?_
          refine z_istore_n (pc := 30) (L' := [(2, .int (iI 1)), (3, .int (iI k)), (1, .int (iI p)), (0, .int (iI s))]) C dX4_isInScale_30 rfl (by rw [hnL]; decide) rfl ?_
          refine z_iinc (pc := 31) (k := 1) (L' := [(3, .int (iI (k + 1))), (2, .int (iI 1)), (1, .int (iI p)), (0, .int (iI s))]) C dX4_isInScale_31 rfl (by rw [hnL]; decide) rfl ?_
          refine z_goto (pc := 34) (tgt := 6) C dX4_isInScale_34 (by decide) ?_
          refine Z.weak (L' := [(3, .int (iI (k + 1))), (2, .int (iI 1)), (1, .int (iI p)), (0, .int (iI s))]) (kc' := 0) (ks' := 0) [0, 1, 2, 3] rfl (by omega) (by omega) ?_
          exact ih6 _ (by omega) (k + 1) 1 (by omega) (isc_st (by omega) (by omega) hz (Or.inr ⟨rfl, by omega⟩)) rfl
  refine Z.weak (L' := [(3, .int (iI (s - 1))), (2, .int (iI 0)), (1, .int (iI p)), (0, .int (iI s))]) (kc' := 0) (ks' := 0) [0, 1, 3, 2] rfl (by omega) (by omega) ?_
  exact loop6 _ (s - 1) 0 (by omega) (by have := plf_r (s - 1) p; rw [if_neg (by omega)]) rfl
set_option maxHeartbeats 4000000 in
theorem m_minor {l : Launch} (hl : l.stackTraces = false) {Γ : zCx} {h : zH} {q : Int} (hq : 0 ≤ q ∧ q ≤ 9)  : zMet l yX4_isMinorChord (ws_ yX4_isMinorChord cX4_isMinorChord 1 (some .boolean)) ({ frames := 0, cells := 0, slots := 0, locals := 0 }) Γ h [.int (iI q)] (zpure h (some (.int (iI (cmn q))))) 0 0 := by
  refine zMet.of (cc := cX4_isMinorChord) hl (plainFor_of_name (by decide +kernel)) (Nat.le_of_ble_eq_true rfl) ?_
  intro X hXl hXΓ hXp C hnm hnL
  have C : zC X cX4_isMinorChord RX4 (some .boolean) 0 0 [] := C
  have hnL : X.2.1.2.2.2.2 = 1 := hnL
  subst hXl hXΓ
  show Z X h 0 0 [(0, .int (iI q))] 0 []
  refine z_iload_n (pc := 0) (j := 0) C dX4_isMinorChord_0 rfl rfl ?_
  refine z_iconst (pc := 1) C dX4_isMinorChord_1 ?_
  refine z_icmp_eq (pc := 2) (tgt := 15) C dX4_isMinorChord_2 (by decide) (by omega) (by decide) (fun c2 => ?_) (fun c2 => ?_)
  · refine z_iconst (pc := 15) C dX4_isMinorChord_15 ?_
    refine z_goto (pc := 16) (tgt := 20) C dX4_isMinorChord_16 (by decide) ?_
    exact z_zreturn (pc := 20) C (by decide) (by rw [hXp]; exact zpure_i (by unfold cmn; split <;> omega) rfl) dX4_isMinorChord_20
  · refine z_iload_n (pc := 5) (j := 0) C dX4_isMinorChord_5 rfl rfl ?_
    refine z_iconst (pc := 6) C dX4_isMinorChord_6 ?_
    refine z_icmp_eq (pc := 7) (tgt := 15) C dX4_isMinorChord_7 (by decide) (by omega) (by decide) (fun c7 => ?_) (fun c7 => ?_)
    · refine z_iconst (pc := 15) C dX4_isMinorChord_15 ?_
      refine z_goto (pc := 16) (tgt := 20) C dX4_isMinorChord_16 (by decide) ?_
      exact z_zreturn (pc := 20) C (by decide) (by rw [hXp]; exact zpure_i (by unfold cmn; split <;> omega) rfl) dX4_isMinorChord_20
    · refine z_iload_n (pc := 10) (j := 0) C dX4_isMinorChord_10 rfl rfl ?_
      refine z_iconst (pc := 11) C dX4_isMinorChord_11 ?_
      refine z_icmp_ne (pc := 12) (tgt := 19) C dX4_isMinorChord_12 (by decide) (by omega) (by decide) (fun c12 => ?_) (fun c12 => ?_)
      · refine z_iconst (pc := 19) C dX4_isMinorChord_19 ?_
        exact z_zreturn (pc := 20) C (by decide) (by rw [hXp]; exact zpure_i (by unfold cmn; split <;> omega) rfl) dX4_isMinorChord_20
      · refine z_iconst (pc := 15) C dX4_isMinorChord_15 ?_
        refine z_goto (pc := 16) (tgt := 20) C dX4_isMinorChord_16 (by decide) ?_
        exact z_zreturn (pc := 20) C (by decide) (by rw [hXp]; exact zpure_i (by unfold cmn; split <;> omega) rfl) dX4_isMinorChord_20
set_option maxHeartbeats 4000000 in
theorem m_isKey {l : Launch} (hl : l.stackTraces = false) {Γ : zCx} {h : zH} {p b : Int} (hp : -2147483648 ≤ p ∧ p ≤ 2147483647) (hb : b = 0 ∨ b = 1)  : zMet l yX4_isKey (ws_ yX4_isKey cX4_isKey 2 (some .boolean)) ({ frames := 1, cells := 0, slots := 0, locals := 22 }) Γ h [.int (iI p), .int (iI b)] (zpure h (some (.int (iI (if -6 ≤ sgn p b ∧ sgn p b ≤ 6 then 1 else 0))))) 0 0 := by
  refine zMet.of (cc := cX4_isKey) hl (plainFor_of_name (by decide +kernel)) (Nat.le_of_ble_eq_true rfl) ?_
  intro X hXl hXΓ hXp C hnm hnL
  have C : zC X cX4_isKey RX4 (some .boolean) 1 22 [] := C
  have hnL : X.2.1.2.2.2.2 = 2 := hnL
  subst hXl hXΓ
  show Z X h 0 0 [(0, .int (iI p)), (1, .int (iI b))] 0 []
  refine z_iload_n (pc := 0) (j := 1) C dX4_isKey_0 rfl rfl ?_
  refine z_if_eq (pc := 1) (tgt := 10) C dX4_isKey_1 (by decide) (by omega) (fun c1 => ?_) (fun c1 => ?_)
  · refine z_iload_n (pc := 10) (j := 0) C dX4_isKey_10 rfl rfl ?_
    refine z_bipush (pc := 11) C dX4_isKey_11 (by decide) ?_
    refine z_bipush (pc := 13) C dX4_isKey_13 (by decide) ?_
    refine z_callS (pc := 15) (n := 3) (kc' := 0) (ks' := 0) C (m_in C.t (x := p) (a := (-6)) (b := 6) (by omega) (by decide) (by decide)) (lw_S q2164 q2165 q74 q2166) (by decide +kernel) ⟨by decide, by decide⟩ rfl rfl (Nat.le_of_ble_eq_true rfl) dX4_isKey_15 (by omega) (by omega) (zpk (st' := [.int (iI (if (-6) ≤ p ∧ p ≤ 6 then 1 else 0))]) rfl ?_) zrx
    exact z_zreturn (pc := 18) C (by split <;> decide) (by rw [hXp]; exact zpure_i (by unfold sgn; split <;> split <;> (try split) <;> omega) rfl) dX4_isKey_18
  · refine z_iload_n (pc := 4) (j := 0) C dX4_isKey_4 rfl rfl ?_
    refine z_iconst (pc := 5) C dX4_isKey_5 ?_
    refine z_isub (pc := 6) C dX4_isKey_6 ?_
    refine z_goto (pc := 7) (tgt := 11) C dX4_isKey_7 (by decide) ?_
    refine z_bipush (pc := 11) C dX4_isKey_11 (by decide) ?_
    refine z_bipush (pc := 13) C dX4_isKey_13 (by decide) ?_
    rcases (show -2147483648 ≤ p - 3 ∨ p - 3 < -2147483648 by omega) with hw | hw
    · have hpr := hw
      refine z_callS (pc := 15) (n := 3) (kc' := 0) (ks' := 0) C (m_in C.t (x := p - 3) (a := (-6)) (b := 6) (by omega) (by decide) (by decide)) (lw_S q2164 q2165 q74 q2166) (by decide +kernel) ⟨by decide, by decide⟩ rfl rfl (Nat.le_of_ble_eq_true rfl) dX4_isKey_15 (by omega) (by omega) (zpk (st' := [.int (iI (if (-6) ≤ p - 3 ∧ p - 3 ≤ 6 then 1 else 0))]) rfl ?_) zrx
      exact z_zreturn (pc := 18) C (by split <;> decide) (by rw [hXp]; exact zpure_i (by unfold sgn; split <;> split <;> (try split) <;> omega) rfl) dX4_isKey_18
    · rw [iI_wrap (p - 3)]
      show Z X h 0 0 [(0, .int (iI p)), (1, .int (iI b))] 15 [.int (iI 6), .int (iI (-6)), .int (iI (p - 3 + 4294967296))]
      refine z_callS (pc := 15) (n := 3) (kc' := 0) (ks' := 0) C (m_in C.t (x := p - 3 + 4294967296) (a := (-6)) (b := 6) (by omega) (by decide) (by decide)) (lw_S q2164 q2165 q74 q2166) (by decide +kernel) ⟨by decide, by decide⟩ rfl rfl (Nat.le_of_ble_eq_true rfl) dX4_isKey_15 (by omega) (by omega) (zpk (st' := [.int (iI (if (-6) ≤ p - 3 + 4294967296 ∧ p - 3 + 4294967296 ≤ 6 then 1 else 0))]) rfl ?_) zrx
      exact z_zreturn (pc := 18) C (by split <;> decide) (by rw [hXp]; exact zpure_i (by unfold sgn; split <;> split <;> (try split) <;> omega) rfl) dX4_isKey_18
set_option maxHeartbeats 4000000 in
theorem m_score {l : Launch} (hl : l.stackTraces = false) {Γ : zCx} {h : zH} {A : zMA} {st ty si ff wd th ap nt rr rq rb wh nd up lo : Int} {V P T M N U W : Nat → Int} (hM : mM h A st ty si ff wd th ap nt rr rq rb wh nd up lo V P T M N U W) {S : zSh} (hS : vS V S) (hsl : shL S) (hsr : shR S) {p b : Int} (hp : -100 ≤ p ∧ p ≤ 100) (hb : b = 0 ∨ b = 1)  : zMet l yX4_scoreOf (ws_ yX4_scoreOf cX4_scoreOf 7 (some .int)) ({ frames := 3, cells := 0, slots := 0, locals := 63 }) Γ h [.ref A.m, .int (iI p), .int (iI b)] (zpure h (some (.int (iI (scl p b S.cs))))) 0 0 := by
  refine zMet.of (cc := cX4_scoreOf) hl (plainFor_of_name (by decide +kernel)) (Nat.le_of_ble_eq_true rfl) ?_
  intro X hXl hXΓ hXp C hnm hnL
  have C : zC X cX4_scoreOf RX4 (some .int) 3 63 [] := C
  have hnL : X.2.1.2.2.2.2 = 7 := hnL
  subst hXl hXΓ
  show Z X h 0 0 [(0, .ref A.m), (1, .int (iI p)), (2, .int (iI b))] 0 []
  obtain ⟨gm_1, gv_1, gpa_1, gtx_1, gma_1, gna_1, gua_1, gla_1, gle_1, gqa_1, gd_1⟩ := id hM
  obtain ⟨hsl1, hsl2, hsl3⟩ := id hsl
  refine z_iconst (pc := 0) C dX4_scoreOf_0 ?_
  refine z_istore_n (pc := 1) (L' := [(3, .int (iI 0)), (0, .ref A.m), (1, .int (iI p)), (2, .int (iI b))]) C dX4_scoreOf_1 rfl (by rw [hnL]; decide) rfl ?_
  refine z_iconst (pc := 2) C dX4_scoreOf_2 ?_
  refine z_istore (pc := 3) (L' := [(4, .int (iI 0)), (3, .int (iI 0)), (0, .ref A.m), (1, .int (iI p)), (2, .int (iI b))]) C dX4_scoreOf_3 (by rw [hnL]; decide) rfl ?_
  have loop5 : ∀ (n5 : Nat) (i : Int) (z : Int), (0 ≤ i ∧ i ≤ (S.cs.length : Nat)) → (z + scl p b (S.cs.drop i.toNat) = scl p b S.cs) → (((S.cs.length : Nat) - i).toNat) = n5 → Z X h 0 0 [(4, .int (iI i)), (3, .int (iI z)), (2, .int (iI b)), (1, .int (iI p)), (0, .ref A.m)] 5 [] := by
    intro n5
    induction n5 using Nat.strongRecOn with
    | ind n5 ih5 =>
    intro i z hi hd hn5
    refine z_iload (pc := 5) (j := 0) C dX4_scoreOf_5 rfl ?_
    refine z_aload_n (pc := 7) (j := 4) C dX4_scoreOf_7 rfl rfl ?_
    refine z_getfield (pc := 8) (v := .ref A.v) C in_X4 rfl 0 (by decide) q2082 (fun _ z => z) gm_1 rfl dX4_scoreOf_8 ?_
    refine z_iconst (pc := 11) C dX4_scoreOf_11 ?_
    refine z_iaload (pc := 12) (v := .int (iI ((S.cs.length : Nat) : Int))) C gv_1 (by omega) (mA_e (vE hS.2.1 (by omega))) dX4_scoreOf_12 ?_
    refine z_icmp_ge (pc := 13) (tgt := 153) C dX4_scoreOf_13 (by decide) (by omega) (by omega) (fun c13 => ?_) (fun c13 => ?_)
    · refine z_iload_n (pc := 153) (j := 1) C dX4_scoreOf_153 rfl rfl ?_
      exact z_ireturn (pc := 154) C (by rw [hXp]; exact zpure_i (by rw [List.drop_of_length_le (by omega), scl] at hd; omega) rfl) dX4_scoreOf_154
    · obtain ⟨c_2, hc_2⟩ : ∃ x, S.cs[(i).toNat]? = some x := ⟨_, List.getElem?_eq_getElem (by omega)⟩
      obtain ⟨hx1_2, hx2_2, hx3_2, hx4_2, hx5_2⟩ := hS.c (i := i) (by omega) hc_2
      obtain ⟨xr1_2, xr2_2, xr3_2, xr4_2, xr5_2⟩ := hsr.2.1 _ (List.mem_of_getElem? hc_2)
      have hsg9 : sgn p b = p - if b = 1 then 3 else 0 := rfl
      refine z_aload_n (pc := 16) (j := 4) C dX4_scoreOf_16 rfl rfl ?_
      refine z_getfield (pc := 17) (v := .ref A.v) C in_X4 rfl 0 (by decide) q2082 (fun _ z => z) gm_1 rfl dX4_scoreOf_17 ?_
      refine z_iload (pc := 20) (j := 0) C dX4_scoreOf_20 rfl ?_
      refine z_callS (pc := 22) (n := 1) (kc' := 0) (ks' := 0) C (m_chord C.t (x := i)) (lw_S q2203 q2204 q74 q2205) (by decide +kernel) ⟨by decide, by decide⟩ rfl rfl (Nat.le_of_ble_eq_true rfl) dX4_scoreOf_22 (by omega) (by omega) (zpk (st' := [.int (iI (210 + 5 * i)), .ref A.v]) rfl ?_) zrx
      refine z_iconst (pc := 25) C dX4_scoreOf_25 ?_
      refine z_iadd (pc := 26) C dX4_scoreOf_26 ?_
      refine z_iaload (pc := 27) (v := .int (iI c_2.2.2.1)) C gv_1 (by omega) (mA_e (vE hx3_2 (by omega))) dX4_scoreOf_27 ?_
      refine z_callS (pc := 28) (n := 1) (kc' := 0) (ks' := 0) C (m_pitch C.t (x := c_2.2.2.1) (by omega)) (lw_S q2218 q2219 q74 q2220) (by decide +kernel) ⟨by decide, by decide⟩ rfl rfl (Nat.le_of_ble_eq_true rfl) dX4_scoreOf_28 (by omega) (by omega) (zpk (st' := [.int (iI (pcl c_2.2.2.1))]) rfl ?_) zrx
      have hpcl31 := pcl_r c_2.2.2.1
      refine z_istore (pc := 31) (L' := [(5, .int (iI (pcl c_2.2.2.1))), (4, .int (iI i)), (3, .int (iI z)), (2, .int (iI b)), (1, .int (iI p)), (0, .ref A.m)]) C dX4_scoreOf_31 (by rw [hnL]; decide) rfl ?_
      refine z_iload (pc := 33) (j := 0) C dX4_scoreOf_33 rfl ?_
      refine z_iload_n (pc := 35) (j := 4) C dX4_scoreOf_35 rfl rfl ?_
      refine z_callS (pc := 36) (n := 1) (kc' := 0) (ks' := 0) C (m_pitch C.t (x := p) (by omega)) (lw_S q2218 q2219 q74 q2220) (by decide +kernel) ⟨by decide, by decide⟩ rfl rfl (Nat.le_of_ble_eq_true rfl) dX4_scoreOf_36 (by omega) (by omega) (zpk (st' := [.int (iI (pcl p)), .int (iI (pcl c_2.2.2.1))]) rfl ?_) zrx
      have hpcl39 := pcl_r p
      refine z_icmp_ne (pc := 39) (tgt := 46) C dX4_scoreOf_39 (by decide) (by omega) (by omega) (fun c39 => ?_) (fun c39 => ?_)
      · refine z_iconst (pc := 46) C dX4_scoreOf_46 ?_
        refine z_istore (pc := 47) (L' := [(6, .int (iI 0)), (5, .int (iI (pcl c_2.2.2.1))), (4, .int (iI i)), (3, .int (iI z)), (2, .int (iI b)), (1, .int (iI p)), (0, .ref A.m)]) C dX4_scoreOf_47 (by rw [hnL]; decide) rfl ?_
        refine z_iload_n (pc := 49) (j := 3) C dX4_scoreOf_49 rfl rfl ?_
        refine z_iload_n (pc := 50) (j := 4) C dX4_scoreOf_50 rfl rfl ?_
        have hsgr := sgn_r (t := p) hb
        refine z_if_eq (pc := 51) (tgt := 60) C dX4_scoreOf_51 (by decide) (by omega) (fun c51 => ?_) (fun c51 => ?_)
        · refine z_iload_n (pc := 60) (j := 5) C dX4_scoreOf_60 rfl rfl ?_
          refine z_iload (pc := 61) (j := 1) C dX4_scoreOf_61 rfl ?_
          refine z_callS (pc := 63) (n := 2) (kc' := 0) (ks' := 0) C (m_scale C.t (s := p) (p := pcl c_2.2.2.1) (by omega) (by omega)) (lw_S q2224 q2225 q74 q2226) (by decide +kernel) ⟨by decide, by decide⟩ rfl rfl (Nat.le_of_ble_eq_true rfl) dX4_scoreOf_63 (by omega) (by omega) (zpk (st' := [.int (iI (iscl p (pcl c_2.2.2.1))), .int (iI z)]) rfl ?_) zrx
          have hisc66 := iscl_r p (pcl c_2.2.2.1)
          rw [show (iscl p (pcl c_2.2.2.1) : Int) = insc p b (pcl c_2.2.2.1) by rw [← iscl_c, show sgn p b = p by unfold sgn; split <;> omega]]
          have hin66 := insc_r p b (pcl c_2.2.2.1)
          show Z X h 0 0 [(6, .int (iI 0)), (5, .int (iI (pcl c_2.2.2.1))), (4, .int (iI i)), (3, .int (iI z)), (2, .int (iI b)), (1, .int (iI p)), (0, .ref A.m)] 66 [.int (iI (insc p b (pcl c_2.2.2.1))), .int (iI z)]
          refine z_if_eq (pc := 66) (tgt := 73) C dX4_scoreOf_66 (by decide) (by omega) (fun c66 => ?_) (fun c66 => ?_)
          · refine z_iconst (pc := 73) C dX4_scoreOf_73 ?_
            refine z_iadd (pc := 74) C dX4_scoreOf_74 ?_
            refine z_istore_n (pc := 75) (L' := [(3, .int (iI (z + 0))), (6, .int (iI 0)), (5, .int (iI (pcl c_2.2.2.1))), (4, .int (iI i)), (2, .int (iI b)), (1, .int (iI p)), (0, .ref A.m)]) C dX4_scoreOf_75 rfl (by rw [hnL]; decide) rfl ?_
            refine z_iload_n (pc := 76) (j := 0) C dX4_scoreOf_76 rfl rfl ?_
            refine z_iload (pc := 77) (j := 1) C dX4_scoreOf_77 rfl ?_
            refine z_if_eq (pc := 79) (tgt := 86) C dX4_scoreOf_79 (by decide) (by decide) (fun _ => ?_) (fun z => absurd z (by decide))
            refine z_iconst (pc := 86) C dX4_scoreOf_86 ?_
            refine z_iadd (pc := 87) C dX4_scoreOf_87 ?_
            refine z_istore_n (pc := 88) (L' := [(3, .int (iI ((z + 0) + 0))), (6, .int (iI 0)), (5, .int (iI (pcl c_2.2.2.1))), (4, .int (iI i)), (2, .int (iI b)), (1, .int (iI p)), (0, .ref A.m)]) C dX4_scoreOf_88 rfl (by rw [hnL]; decide) rfl ?_
            refine z_iload_n (pc := 89) (j := 0) C dX4_scoreOf_89 rfl rfl ?_
            refine z_iload (pc := 90) (j := 1) C dX4_scoreOf_90 rfl ?_
            refine z_if_eq (pc := 92) (tgt := 118) C dX4_scoreOf_92 (by decide) (by decide) (fun _ => ?_) (fun z => absurd z (by decide))
            refine z_iconst (pc := 118) C dX4_scoreOf_118 ?_
            refine z_iadd (pc := 119) C dX4_scoreOf_119 ?_
            refine z_istore_n (pc := 120) (L' := [(3, .int (iI (((z + 0) + 0) + 0))), (6, .int (iI 0)), (5, .int (iI (pcl c_2.2.2.1))), (4, .int (iI i)), (2, .int (iI b)), (1, .int (iI p)), (0, .ref A.m)]) C dX4_scoreOf_120 rfl (by rw [hnL]; decide) rfl ?_
            refine z_iload_n (pc := 121) (j := 0) C dX4_scoreOf_121 rfl rfl ?_
            refine z_iload (pc := 122) (j := 1) C dX4_scoreOf_122 rfl ?_
            refine z_if_eq (pc := 124) (tgt := 144) C dX4_scoreOf_124 (by decide) (by decide) (fun _ => ?_) (fun z => absurd z (by decide))
            refine z_iconst (pc := 144) C dX4_scoreOf_144 ?_
            refine z_iadd (pc := 145) C dX4_scoreOf_145 ?_
            refine z_istore_n (pc := 146) (L' := [(3, .int (iI ((((z + 0) + 0) + 0) + 0))), (6, .int (iI 0)), (5, .int (iI (pcl c_2.2.2.1))), (4, .int (iI i)), (2, .int (iI b)), (1, .int (iI p)), (0, .ref A.m)]) C dX4_scoreOf_146 rfl (by rw [hnL]; decide) rfl ?_
            refine z_iinc (pc := 147) (k := 3) (L' := [(4, .int (iI (i + 1))), (3, .int (iI ((((z + 0) + 0) + 0) + 0))), (6, .int (iI 0)), (5, .int (iI (pcl c_2.2.2.1))), (2, .int (iI b)), (1, .int (iI p)), (0, .ref A.m)]) C dX4_scoreOf_147 rfl (by rw [hnL]; decide) rfl ?_
            refine z_goto (pc := 150) (tgt := 5) C dX4_scoreOf_150 (by decide) ?_
            refine Z.weak (L' := [(4, .int (iI (i + 1))), (3, .int (iI ((((z + 0) + 0) + 0) + 0))), (2, .int (iI b)), (1, .int (iI p)), (0, .ref A.m)]) (kc' := 0) (ks' := 0) [0, 1, 4, 5, 6] rfl (by omega) (by omega) ?_
            exact ih5 _ (by omega) (i + 1) ((((z + 0) + 0) + 0) + 0) (by omega) (by rw [scl_step hc_2 (by omega)] at hd; (repeat' split at hd) <;> omega) rfl
          · refine z_iconst (pc := 69) C dX4_scoreOf_69 ?_
            refine z_goto (pc := 70) (tgt := 74) C dX4_scoreOf_70 (by decide) ?_
            refine z_iadd (pc := 74) C dX4_scoreOf_74 ?_
            refine z_istore_n (pc := 75) (L' := [(3, .int (iI (z + 2))), (6, .int (iI 0)), (5, .int (iI (pcl c_2.2.2.1))), (4, .int (iI i)), (2, .int (iI b)), (1, .int (iI p)), (0, .ref A.m)]) C dX4_scoreOf_75 rfl (by rw [hnL]; decide) rfl ?_
            refine z_iload_n (pc := 76) (j := 0) C dX4_scoreOf_76 rfl rfl ?_
            refine z_iload (pc := 77) (j := 1) C dX4_scoreOf_77 rfl ?_
            refine z_if_eq (pc := 79) (tgt := 86) C dX4_scoreOf_79 (by decide) (by decide) (fun _ => ?_) (fun z => absurd z (by decide))
            refine z_iconst (pc := 86) C dX4_scoreOf_86 ?_
            refine z_iadd (pc := 87) C dX4_scoreOf_87 ?_
            refine z_istore_n (pc := 88) (L' := [(3, .int (iI ((z + 2) + 0))), (6, .int (iI 0)), (5, .int (iI (pcl c_2.2.2.1))), (4, .int (iI i)), (2, .int (iI b)), (1, .int (iI p)), (0, .ref A.m)]) C dX4_scoreOf_88 rfl (by rw [hnL]; decide) rfl ?_
            refine z_iload_n (pc := 89) (j := 0) C dX4_scoreOf_89 rfl rfl ?_
            refine z_iload (pc := 90) (j := 1) C dX4_scoreOf_90 rfl ?_
            refine z_if_eq (pc := 92) (tgt := 118) C dX4_scoreOf_92 (by decide) (by decide) (fun _ => ?_) (fun z => absurd z (by decide))
            refine z_iconst (pc := 118) C dX4_scoreOf_118 ?_
            refine z_iadd (pc := 119) C dX4_scoreOf_119 ?_
            refine z_istore_n (pc := 120) (L' := [(3, .int (iI (((z + 2) + 0) + 0))), (6, .int (iI 0)), (5, .int (iI (pcl c_2.2.2.1))), (4, .int (iI i)), (2, .int (iI b)), (1, .int (iI p)), (0, .ref A.m)]) C dX4_scoreOf_120 rfl (by rw [hnL]; decide) rfl ?_
            refine z_iload_n (pc := 121) (j := 0) C dX4_scoreOf_121 rfl rfl ?_
            refine z_iload (pc := 122) (j := 1) C dX4_scoreOf_122 rfl ?_
            refine z_if_eq (pc := 124) (tgt := 144) C dX4_scoreOf_124 (by decide) (by decide) (fun _ => ?_) (fun z => absurd z (by decide))
            refine z_iconst (pc := 144) C dX4_scoreOf_144 ?_
            refine z_iadd (pc := 145) C dX4_scoreOf_145 ?_
            refine z_istore_n (pc := 146) (L' := [(3, .int (iI ((((z + 2) + 0) + 0) + 0))), (6, .int (iI 0)), (5, .int (iI (pcl c_2.2.2.1))), (4, .int (iI i)), (2, .int (iI b)), (1, .int (iI p)), (0, .ref A.m)]) C dX4_scoreOf_146 rfl (by rw [hnL]; decide) rfl ?_
            refine z_iinc (pc := 147) (k := 3) (L' := [(4, .int (iI (i + 1))), (3, .int (iI ((((z + 2) + 0) + 0) + 0))), (6, .int (iI 0)), (5, .int (iI (pcl c_2.2.2.1))), (2, .int (iI b)), (1, .int (iI p)), (0, .ref A.m)]) C dX4_scoreOf_147 rfl (by rw [hnL]; decide) rfl ?_
            refine z_goto (pc := 150) (tgt := 5) C dX4_scoreOf_150 (by decide) ?_
            refine Z.weak (L' := [(4, .int (iI (i + 1))), (3, .int (iI ((((z + 2) + 0) + 0) + 0))), (2, .int (iI b)), (1, .int (iI p)), (0, .ref A.m)]) (kc' := 0) (ks' := 0) [0, 1, 4, 5, 6] rfl (by omega) (by omega) ?_
            exact ih5 _ (by omega) (i + 1) ((((z + 2) + 0) + 0) + 0) (by omega) (by rw [scl_step hc_2 (by omega)] at hd; (repeat' split at hd) <;> omega) rfl
        · refine z_iload_n (pc := 54) (j := 5) C dX4_scoreOf_54 rfl rfl ?_
          refine z_iconst (pc := 55) C dX4_scoreOf_55 ?_
          refine z_isub (pc := 56) C dX4_scoreOf_56 ?_
          refine z_goto (pc := 57) (tgt := 61) C dX4_scoreOf_57 (by decide) ?_
          refine z_iload (pc := 61) (j := 1) C dX4_scoreOf_61 rfl ?_
          refine z_callS (pc := 63) (n := 2) (kc' := 0) (ks' := 0) C (m_scale C.t (s := p - 3) (p := pcl c_2.2.2.1) (by omega) (by omega)) (lw_S q2224 q2225 q74 q2226) (by decide +kernel) ⟨by decide, by decide⟩ rfl rfl (Nat.le_of_ble_eq_true rfl) dX4_scoreOf_63 (by omega) (by omega) (zpk (st' := [.int (iI (iscl (p - 3) (pcl c_2.2.2.1))), .int (iI z)]) rfl ?_) zrx
          have hisc66 := iscl_r (p - 3) (pcl c_2.2.2.1)
          rw [show (iscl (p - 3) (pcl c_2.2.2.1) : Int) = insc p b (pcl c_2.2.2.1) by rw [← iscl_c, show sgn p b = (p - 3) by unfold sgn; split <;> omega]]
          have hin66 := insc_r p b (pcl c_2.2.2.1)
          show Z X h 0 0 [(6, .int (iI 0)), (5, .int (iI (pcl c_2.2.2.1))), (4, .int (iI i)), (3, .int (iI z)), (2, .int (iI b)), (1, .int (iI p)), (0, .ref A.m)] 66 [.int (iI (insc p b (pcl c_2.2.2.1))), .int (iI z)]
          refine z_if_eq (pc := 66) (tgt := 73) C dX4_scoreOf_66 (by decide) (by omega) (fun c66 => ?_) (fun c66 => ?_)
          · refine z_iconst (pc := 73) C dX4_scoreOf_73 ?_
            refine z_iadd (pc := 74) C dX4_scoreOf_74 ?_
            refine z_istore_n (pc := 75) (L' := [(3, .int (iI (z + 0))), (6, .int (iI 0)), (5, .int (iI (pcl c_2.2.2.1))), (4, .int (iI i)), (2, .int (iI b)), (1, .int (iI p)), (0, .ref A.m)]) C dX4_scoreOf_75 rfl (by rw [hnL]; decide) rfl ?_
            refine z_iload_n (pc := 76) (j := 0) C dX4_scoreOf_76 rfl rfl ?_
            refine z_iload (pc := 77) (j := 1) C dX4_scoreOf_77 rfl ?_
            refine z_if_eq (pc := 79) (tgt := 86) C dX4_scoreOf_79 (by decide) (by decide) (fun _ => ?_) (fun z => absurd z (by decide))
            refine z_iconst (pc := 86) C dX4_scoreOf_86 ?_
            refine z_iadd (pc := 87) C dX4_scoreOf_87 ?_
            refine z_istore_n (pc := 88) (L' := [(3, .int (iI ((z + 0) + 0))), (6, .int (iI 0)), (5, .int (iI (pcl c_2.2.2.1))), (4, .int (iI i)), (2, .int (iI b)), (1, .int (iI p)), (0, .ref A.m)]) C dX4_scoreOf_88 rfl (by rw [hnL]; decide) rfl ?_
            refine z_iload_n (pc := 89) (j := 0) C dX4_scoreOf_89 rfl rfl ?_
            refine z_iload (pc := 90) (j := 1) C dX4_scoreOf_90 rfl ?_
            refine z_if_eq (pc := 92) (tgt := 118) C dX4_scoreOf_92 (by decide) (by decide) (fun _ => ?_) (fun z => absurd z (by decide))
            refine z_iconst (pc := 118) C dX4_scoreOf_118 ?_
            refine z_iadd (pc := 119) C dX4_scoreOf_119 ?_
            refine z_istore_n (pc := 120) (L' := [(3, .int (iI (((z + 0) + 0) + 0))), (6, .int (iI 0)), (5, .int (iI (pcl c_2.2.2.1))), (4, .int (iI i)), (2, .int (iI b)), (1, .int (iI p)), (0, .ref A.m)]) C dX4_scoreOf_120 rfl (by rw [hnL]; decide) rfl ?_
            refine z_iload_n (pc := 121) (j := 0) C dX4_scoreOf_121 rfl rfl ?_
            refine z_iload (pc := 122) (j := 1) C dX4_scoreOf_122 rfl ?_
            refine z_if_eq (pc := 124) (tgt := 144) C dX4_scoreOf_124 (by decide) (by decide) (fun _ => ?_) (fun z => absurd z (by decide))
            refine z_iconst (pc := 144) C dX4_scoreOf_144 ?_
            refine z_iadd (pc := 145) C dX4_scoreOf_145 ?_
            refine z_istore_n (pc := 146) (L' := [(3, .int (iI ((((z + 0) + 0) + 0) + 0))), (6, .int (iI 0)), (5, .int (iI (pcl c_2.2.2.1))), (4, .int (iI i)), (2, .int (iI b)), (1, .int (iI p)), (0, .ref A.m)]) C dX4_scoreOf_146 rfl (by rw [hnL]; decide) rfl ?_
            refine z_iinc (pc := 147) (k := 3) (L' := [(4, .int (iI (i + 1))), (3, .int (iI ((((z + 0) + 0) + 0) + 0))), (6, .int (iI 0)), (5, .int (iI (pcl c_2.2.2.1))), (2, .int (iI b)), (1, .int (iI p)), (0, .ref A.m)]) C dX4_scoreOf_147 rfl (by rw [hnL]; decide) rfl ?_
            refine z_goto (pc := 150) (tgt := 5) C dX4_scoreOf_150 (by decide) ?_
            refine Z.weak (L' := [(4, .int (iI (i + 1))), (3, .int (iI ((((z + 0) + 0) + 0) + 0))), (2, .int (iI b)), (1, .int (iI p)), (0, .ref A.m)]) (kc' := 0) (ks' := 0) [0, 1, 4, 5, 6] rfl (by omega) (by omega) ?_
            exact ih5 _ (by omega) (i + 1) ((((z + 0) + 0) + 0) + 0) (by omega) (by rw [scl_step hc_2 (by omega)] at hd; (repeat' split at hd) <;> omega) rfl
          · refine z_iconst (pc := 69) C dX4_scoreOf_69 ?_
            refine z_goto (pc := 70) (tgt := 74) C dX4_scoreOf_70 (by decide) ?_
            refine z_iadd (pc := 74) C dX4_scoreOf_74 ?_
            refine z_istore_n (pc := 75) (L' := [(3, .int (iI (z + 2))), (6, .int (iI 0)), (5, .int (iI (pcl c_2.2.2.1))), (4, .int (iI i)), (2, .int (iI b)), (1, .int (iI p)), (0, .ref A.m)]) C dX4_scoreOf_75 rfl (by rw [hnL]; decide) rfl ?_
            refine z_iload_n (pc := 76) (j := 0) C dX4_scoreOf_76 rfl rfl ?_
            refine z_iload (pc := 77) (j := 1) C dX4_scoreOf_77 rfl ?_
            refine z_if_eq (pc := 79) (tgt := 86) C dX4_scoreOf_79 (by decide) (by decide) (fun _ => ?_) (fun z => absurd z (by decide))
            refine z_iconst (pc := 86) C dX4_scoreOf_86 ?_
            refine z_iadd (pc := 87) C dX4_scoreOf_87 ?_
            refine z_istore_n (pc := 88) (L' := [(3, .int (iI ((z + 2) + 0))), (6, .int (iI 0)), (5, .int (iI (pcl c_2.2.2.1))), (4, .int (iI i)), (2, .int (iI b)), (1, .int (iI p)), (0, .ref A.m)]) C dX4_scoreOf_88 rfl (by rw [hnL]; decide) rfl ?_
            refine z_iload_n (pc := 89) (j := 0) C dX4_scoreOf_89 rfl rfl ?_
            refine z_iload (pc := 90) (j := 1) C dX4_scoreOf_90 rfl ?_
            refine z_if_eq (pc := 92) (tgt := 118) C dX4_scoreOf_92 (by decide) (by decide) (fun _ => ?_) (fun z => absurd z (by decide))
            refine z_iconst (pc := 118) C dX4_scoreOf_118 ?_
            refine z_iadd (pc := 119) C dX4_scoreOf_119 ?_
            refine z_istore_n (pc := 120) (L' := [(3, .int (iI (((z + 2) + 0) + 0))), (6, .int (iI 0)), (5, .int (iI (pcl c_2.2.2.1))), (4, .int (iI i)), (2, .int (iI b)), (1, .int (iI p)), (0, .ref A.m)]) C dX4_scoreOf_120 rfl (by rw [hnL]; decide) rfl ?_
            refine z_iload_n (pc := 121) (j := 0) C dX4_scoreOf_121 rfl rfl ?_
            refine z_iload (pc := 122) (j := 1) C dX4_scoreOf_122 rfl ?_
            refine z_if_eq (pc := 124) (tgt := 144) C dX4_scoreOf_124 (by decide) (by decide) (fun _ => ?_) (fun z => absurd z (by decide))
            refine z_iconst (pc := 144) C dX4_scoreOf_144 ?_
            refine z_iadd (pc := 145) C dX4_scoreOf_145 ?_
            refine z_istore_n (pc := 146) (L' := [(3, .int (iI ((((z + 2) + 0) + 0) + 0))), (6, .int (iI 0)), (5, .int (iI (pcl c_2.2.2.1))), (4, .int (iI i)), (2, .int (iI b)), (1, .int (iI p)), (0, .ref A.m)]) C dX4_scoreOf_146 rfl (by rw [hnL]; decide) rfl ?_
            refine z_iinc (pc := 147) (k := 3) (L' := [(4, .int (iI (i + 1))), (3, .int (iI ((((z + 2) + 0) + 0) + 0))), (6, .int (iI 0)), (5, .int (iI (pcl c_2.2.2.1))), (2, .int (iI b)), (1, .int (iI p)), (0, .ref A.m)]) C dX4_scoreOf_147 rfl (by rw [hnL]; decide) rfl ?_
            refine z_goto (pc := 150) (tgt := 5) C dX4_scoreOf_150 (by decide) ?_
            refine Z.weak (L' := [(4, .int (iI (i + 1))), (3, .int (iI ((((z + 2) + 0) + 0) + 0))), (2, .int (iI b)), (1, .int (iI p)), (0, .ref A.m)]) (kc' := 0) (ks' := 0) [0, 1, 4, 5, 6] rfl (by omega) (by omega) ?_
            exact ih5 _ (by omega) (i + 1) ((((z + 2) + 0) + 0) + 0) (by omega) (by rw [scl_step hc_2 (by omega)] at hd; (repeat' split at hd) <;> omega) rfl
      · refine z_iconst (pc := 42) C dX4_scoreOf_42 ?_
        refine z_goto (pc := 43) (tgt := 47) C dX4_scoreOf_43 (by decide) ?_
        refine z_istore (pc := 47) (L' := [(6, .int (iI 1)), (5, .int (iI (pcl c_2.2.2.1))), (4, .int (iI i)), (3, .int (iI z)), (2, .int (iI b)), (1, .int (iI p)), (0, .ref A.m)]) C dX4_scoreOf_47 (by rw [hnL]; decide) rfl ?_
        refine z_iload_n (pc := 49) (j := 3) C dX4_scoreOf_49 rfl rfl ?_
        refine z_iload_n (pc := 50) (j := 4) C dX4_scoreOf_50 rfl rfl ?_
        have hsgr := sgn_r (t := p) hb
        refine z_if_eq (pc := 51) (tgt := 60) C dX4_scoreOf_51 (by decide) (by omega) (fun c51 => ?_) (fun c51 => ?_)
        · refine z_iload_n (pc := 60) (j := 5) C dX4_scoreOf_60 rfl rfl ?_
          refine z_iload (pc := 61) (j := 1) C dX4_scoreOf_61 rfl ?_
          refine z_callS (pc := 63) (n := 2) (kc' := 0) (ks' := 0) C (m_scale C.t (s := p) (p := pcl c_2.2.2.1) (by omega) (by omega)) (lw_S q2224 q2225 q74 q2226) (by decide +kernel) ⟨by decide, by decide⟩ rfl rfl (Nat.le_of_ble_eq_true rfl) dX4_scoreOf_63 (by omega) (by omega) (zpk (st' := [.int (iI (iscl p (pcl c_2.2.2.1))), .int (iI z)]) rfl ?_) zrx
          have hisc66 := iscl_r p (pcl c_2.2.2.1)
          rw [show (iscl p (pcl c_2.2.2.1) : Int) = insc p b (pcl c_2.2.2.1) by rw [← iscl_c, show sgn p b = p by unfold sgn; split <;> omega]]
          have hin66 := insc_r p b (pcl c_2.2.2.1)
          show Z X h 0 0 [(6, .int (iI 1)), (5, .int (iI (pcl c_2.2.2.1))), (4, .int (iI i)), (3, .int (iI z)), (2, .int (iI b)), (1, .int (iI p)), (0, .ref A.m)] 66 [.int (iI (insc p b (pcl c_2.2.2.1))), .int (iI z)]
          refine z_if_eq (pc := 66) (tgt := 73) C dX4_scoreOf_66 (by decide) (by omega) (fun c66 => ?_) (fun c66 => ?_)
          · refine z_iconst (pc := 73) C dX4_scoreOf_73 ?_
            refine z_iadd (pc := 74) C dX4_scoreOf_74 ?_
            refine z_istore_n (pc := 75) (L' := [(3, .int (iI (z + 0))), (6, .int (iI 1)), (5, .int (iI (pcl c_2.2.2.1))), (4, .int (iI i)), (2, .int (iI b)), (1, .int (iI p)), (0, .ref A.m)]) C dX4_scoreOf_75 rfl (by rw [hnL]; decide) rfl ?_
            refine z_iload_n (pc := 76) (j := 0) C dX4_scoreOf_76 rfl rfl ?_
            refine z_iload (pc := 77) (j := 1) C dX4_scoreOf_77 rfl ?_
            refine z_if_eq (pc := 79) (tgt := 86) C dX4_scoreOf_79 (by decide) (by decide) (fun z => absurd z (by decide)) (fun _ => ?_)
            refine z_iconst (pc := 82) C dX4_scoreOf_82 ?_
            refine z_goto (pc := 83) (tgt := 87) C dX4_scoreOf_83 (by decide) ?_
            refine z_iadd (pc := 87) C dX4_scoreOf_87 ?_
            refine z_istore_n (pc := 88) (L' := [(3, .int (iI ((z + 0) + 1))), (6, .int (iI 1)), (5, .int (iI (pcl c_2.2.2.1))), (4, .int (iI i)), (2, .int (iI b)), (1, .int (iI p)), (0, .ref A.m)]) C dX4_scoreOf_88 rfl (by rw [hnL]; decide) rfl ?_
            refine z_iload_n (pc := 89) (j := 0) C dX4_scoreOf_89 rfl rfl ?_
            refine z_iload (pc := 90) (j := 1) C dX4_scoreOf_90 rfl ?_
            refine z_if_eq (pc := 92) (tgt := 118) C dX4_scoreOf_92 (by decide) (by decide) (fun z => absurd z (by decide)) (fun _ => ?_)
            refine z_aload_n (pc := 95) (j := 6) C dX4_scoreOf_95 rfl rfl ?_
            refine z_getfield (pc := 96) (v := .ref A.v) C in_X4 rfl 0 (by decide) q2082 (fun _ z => z) gm_1 rfl dX4_scoreOf_96 ?_
            refine z_iload (pc := 99) (j := 3) C dX4_scoreOf_99 rfl ?_
            refine z_callS (pc := 101) (n := 1) (kc' := 0) (ks' := 0) C (m_chord C.t (x := i)) (lw_S q2203 q2204 q74 q2205) (by decide +kernel) ⟨by decide, by decide⟩ rfl rfl (Nat.le_of_ble_eq_true rfl) dX4_scoreOf_101 (by omega) (by omega) (zpk (st' := [.int (iI (210 + 5 * i)), .ref A.v, .int (iI ((z + 0) + 1))]) rfl ?_) zrx
            refine z_iconst (pc := 104) C dX4_scoreOf_104 ?_
            refine z_iadd (pc := 105) C dX4_scoreOf_105 ?_
            refine z_iaload (pc := 106) (v := .int (iI c_2.2.2.2.1)) C gv_1 (by omega) (mA_e (vE hx4_2 (by omega))) dX4_scoreOf_106 ?_
            refine z_callS (pc := 107) (n := 1) (kc' := 0) (ks' := 0) C (m_minor C.t (q := c_2.2.2.2.1) (by omega)) (lw_S q2227 q2228 q74 q2229) (by decide +kernel) ⟨by decide, by decide⟩ rfl rfl (Nat.le_of_ble_eq_true rfl) dX4_scoreOf_107 (by omega) (by omega) (zpk (st' := [.int (iI (cmn c_2.2.2.2.1)), .int (iI ((z + 0) + 1))]) rfl ?_) zrx
            have hcm110 : cmn c_2.2.2.2.1 = 0 ∨ cmn c_2.2.2.2.1 = 1 := by unfold cmn; split <;> omega
            refine z_iload_n (pc := 110) (j := 4) C dX4_scoreOf_110 rfl rfl ?_
            refine z_icmp_ne (pc := 111) (tgt := 118) C dX4_scoreOf_111 (by decide) (by omega) (by omega) (fun c111 => ?_) (fun c111 => ?_)
            · refine z_iconst (pc := 118) C dX4_scoreOf_118 ?_
              refine z_iadd (pc := 119) C dX4_scoreOf_119 ?_
              refine z_istore_n (pc := 120) (L' := [(3, .int (iI (((z + 0) + 1) + 0))), (6, .int (iI 1)), (5, .int (iI (pcl c_2.2.2.1))), (4, .int (iI i)), (2, .int (iI b)), (1, .int (iI p)), (0, .ref A.m)]) C dX4_scoreOf_120 rfl (by rw [hnL]; decide) rfl ?_
              refine z_iload_n (pc := 121) (j := 0) C dX4_scoreOf_121 rfl rfl ?_
              refine z_iload (pc := 122) (j := 1) C dX4_scoreOf_122 rfl ?_
              refine z_if_eq (pc := 124) (tgt := 144) C dX4_scoreOf_124 (by decide) (by decide) (fun z => absurd z (by decide)) (fun _ => ?_)
              refine z_iload (pc := 127) (j := 3) C dX4_scoreOf_127 rfl ?_
              refine z_aload_n (pc := 129) (j := 6) C dX4_scoreOf_129 rfl rfl ?_
              refine z_getfield (pc := 130) (v := .ref A.v) C in_X4 rfl 0 (by decide) q2082 (fun _ z => z) gm_1 rfl dX4_scoreOf_130 ?_
              refine z_iconst (pc := 133) C dX4_scoreOf_133 ?_
              refine z_iaload (pc := 134) (v := .int (iI ((S.cs.length : Nat) : Int))) C gv_1 (by omega) (mA_e (vE hS.2.1 (by omega))) dX4_scoreOf_134 ?_
              refine z_iconst (pc := 135) C dX4_scoreOf_135 ?_
              refine z_isub (pc := 136) C dX4_scoreOf_136 ?_
              refine z_icmp_ne (pc := 137) (tgt := 144) C dX4_scoreOf_137 (by decide) (by omega) (by omega) (fun c137 => ?_) (fun c137 => ?_)
              · refine z_iconst (pc := 144) C dX4_scoreOf_144 ?_
                refine z_iadd (pc := 145) C dX4_scoreOf_145 ?_
                refine z_istore_n (pc := 146) (L' := [(3, .int (iI ((((z + 0) + 1) + 0) + 0))), (6, .int (iI 1)), (5, .int (iI (pcl c_2.2.2.1))), (4, .int (iI i)), (2, .int (iI b)), (1, .int (iI p)), (0, .ref A.m)]) C dX4_scoreOf_146 rfl (by rw [hnL]; decide) rfl ?_
                refine z_iinc (pc := 147) (k := 3) (L' := [(4, .int (iI (i + 1))), (3, .int (iI ((((z + 0) + 1) + 0) + 0))), (6, .int (iI 1)), (5, .int (iI (pcl c_2.2.2.1))), (2, .int (iI b)), (1, .int (iI p)), (0, .ref A.m)]) C dX4_scoreOf_147 rfl (by rw [hnL]; decide) rfl ?_
                refine z_goto (pc := 150) (tgt := 5) C dX4_scoreOf_150 (by decide) ?_
                refine Z.weak (L' := [(4, .int (iI (i + 1))), (3, .int (iI ((((z + 0) + 1) + 0) + 0))), (2, .int (iI b)), (1, .int (iI p)), (0, .ref A.m)]) (kc' := 0) (ks' := 0) [0, 1, 4, 5, 6] rfl (by omega) (by omega) ?_
                exact ih5 _ (by omega) (i + 1) ((((z + 0) + 1) + 0) + 0) (by omega) (by rw [scl_step hc_2 (by omega)] at hd; (repeat' split at hd) <;> omega) rfl
              · refine z_iconst (pc := 140) C dX4_scoreOf_140 ?_
                refine z_goto (pc := 141) (tgt := 145) C dX4_scoreOf_141 (by decide) ?_
                refine z_iadd (pc := 145) C dX4_scoreOf_145 ?_
                refine z_istore_n (pc := 146) (L' := [(3, .int (iI ((((z + 0) + 1) + 0) + 2))), (6, .int (iI 1)), (5, .int (iI (pcl c_2.2.2.1))), (4, .int (iI i)), (2, .int (iI b)), (1, .int (iI p)), (0, .ref A.m)]) C dX4_scoreOf_146 rfl (by rw [hnL]; decide) rfl ?_
                refine z_iinc (pc := 147) (k := 3) (L' := [(4, .int (iI (i + 1))), (3, .int (iI ((((z + 0) + 1) + 0) + 2))), (6, .int (iI 1)), (5, .int (iI (pcl c_2.2.2.1))), (2, .int (iI b)), (1, .int (iI p)), (0, .ref A.m)]) C dX4_scoreOf_147 rfl (by rw [hnL]; decide) rfl ?_
                refine z_goto (pc := 150) (tgt := 5) C dX4_scoreOf_150 (by decide) ?_
                refine Z.weak (L' := [(4, .int (iI (i + 1))), (3, .int (iI ((((z + 0) + 1) + 0) + 2))), (2, .int (iI b)), (1, .int (iI p)), (0, .ref A.m)]) (kc' := 0) (ks' := 0) [0, 1, 4, 5, 6] rfl (by omega) (by omega) ?_
                exact ih5 _ (by omega) (i + 1) ((((z + 0) + 1) + 0) + 2) (by omega) (by rw [scl_step hc_2 (by omega)] at hd; (repeat' split at hd) <;> omega) rfl
            · refine z_iconst (pc := 114) C dX4_scoreOf_114 ?_
              refine z_goto (pc := 115) (tgt := 119) C dX4_scoreOf_115 (by decide) ?_
              refine z_iadd (pc := 119) C dX4_scoreOf_119 ?_
              refine z_istore_n (pc := 120) (L' := [(3, .int (iI (((z + 0) + 1) + 1))), (6, .int (iI 1)), (5, .int (iI (pcl c_2.2.2.1))), (4, .int (iI i)), (2, .int (iI b)), (1, .int (iI p)), (0, .ref A.m)]) C dX4_scoreOf_120 rfl (by rw [hnL]; decide) rfl ?_
              refine z_iload_n (pc := 121) (j := 0) C dX4_scoreOf_121 rfl rfl ?_
              refine z_iload (pc := 122) (j := 1) C dX4_scoreOf_122 rfl ?_
              refine z_if_eq (pc := 124) (tgt := 144) C dX4_scoreOf_124 (by decide) (by decide) (fun z => absurd z (by decide)) (fun _ => ?_)
              refine z_iload (pc := 127) (j := 3) C dX4_scoreOf_127 rfl ?_
              refine z_aload_n (pc := 129) (j := 6) C dX4_scoreOf_129 rfl rfl ?_
              refine z_getfield (pc := 130) (v := .ref A.v) C in_X4 rfl 0 (by decide) q2082 (fun _ z => z) gm_1 rfl dX4_scoreOf_130 ?_
              refine z_iconst (pc := 133) C dX4_scoreOf_133 ?_
              refine z_iaload (pc := 134) (v := .int (iI ((S.cs.length : Nat) : Int))) C gv_1 (by omega) (mA_e (vE hS.2.1 (by omega))) dX4_scoreOf_134 ?_
              refine z_iconst (pc := 135) C dX4_scoreOf_135 ?_
              refine z_isub (pc := 136) C dX4_scoreOf_136 ?_
              refine z_icmp_ne (pc := 137) (tgt := 144) C dX4_scoreOf_137 (by decide) (by omega) (by omega) (fun c137 => ?_) (fun c137 => ?_)
              · refine z_iconst (pc := 144) C dX4_scoreOf_144 ?_
                refine z_iadd (pc := 145) C dX4_scoreOf_145 ?_
                refine z_istore_n (pc := 146) (L' := [(3, .int (iI ((((z + 0) + 1) + 1) + 0))), (6, .int (iI 1)), (5, .int (iI (pcl c_2.2.2.1))), (4, .int (iI i)), (2, .int (iI b)), (1, .int (iI p)), (0, .ref A.m)]) C dX4_scoreOf_146 rfl (by rw [hnL]; decide) rfl ?_
                refine z_iinc (pc := 147) (k := 3) (L' := [(4, .int (iI (i + 1))), (3, .int (iI ((((z + 0) + 1) + 1) + 0))), (6, .int (iI 1)), (5, .int (iI (pcl c_2.2.2.1))), (2, .int (iI b)), (1, .int (iI p)), (0, .ref A.m)]) C dX4_scoreOf_147 rfl (by rw [hnL]; decide) rfl ?_
                refine z_goto (pc := 150) (tgt := 5) C dX4_scoreOf_150 (by decide) ?_
                refine Z.weak (L' := [(4, .int (iI (i + 1))), (3, .int (iI ((((z + 0) + 1) + 1) + 0))), (2, .int (iI b)), (1, .int (iI p)), (0, .ref A.m)]) (kc' := 0) (ks' := 0) [0, 1, 4, 5, 6] rfl (by omega) (by omega) ?_
                exact ih5 _ (by omega) (i + 1) ((((z + 0) + 1) + 1) + 0) (by omega) (by rw [scl_step hc_2 (by omega)] at hd; (repeat' split at hd) <;> omega) rfl
              · refine z_iconst (pc := 140) C dX4_scoreOf_140 ?_
                refine z_goto (pc := 141) (tgt := 145) C dX4_scoreOf_141 (by decide) ?_
                refine z_iadd (pc := 145) C dX4_scoreOf_145 ?_
                refine z_istore_n (pc := 146) (L' := [(3, .int (iI ((((z + 0) + 1) + 1) + 2))), (6, .int (iI 1)), (5, .int (iI (pcl c_2.2.2.1))), (4, .int (iI i)), (2, .int (iI b)), (1, .int (iI p)), (0, .ref A.m)]) C dX4_scoreOf_146 rfl (by rw [hnL]; decide) rfl ?_
                refine z_iinc (pc := 147) (k := 3) (L' := [(4, .int (iI (i + 1))), (3, .int (iI ((((z + 0) + 1) + 1) + 2))), (6, .int (iI 1)), (5, .int (iI (pcl c_2.2.2.1))), (2, .int (iI b)), (1, .int (iI p)), (0, .ref A.m)]) C dX4_scoreOf_147 rfl (by rw [hnL]; decide) rfl ?_
                refine z_goto (pc := 150) (tgt := 5) C dX4_scoreOf_150 (by decide) ?_
                refine Z.weak (L' := [(4, .int (iI (i + 1))), (3, .int (iI ((((z + 0) + 1) + 1) + 2))), (2, .int (iI b)), (1, .int (iI p)), (0, .ref A.m)]) (kc' := 0) (ks' := 0) [0, 1, 4, 5, 6] rfl (by omega) (by omega) ?_
                exact ih5 _ (by omega) (i + 1) ((((z + 0) + 1) + 1) + 2) (by omega) (by rw [scl_step hc_2 (by omega)] at hd; (repeat' split at hd) <;> omega) rfl
          · refine z_iconst (pc := 69) C dX4_scoreOf_69 ?_
            refine z_goto (pc := 70) (tgt := 74) C dX4_scoreOf_70 (by decide) ?_
            refine z_iadd (pc := 74) C dX4_scoreOf_74 ?_
            refine z_istore_n (pc := 75) (L' := [(3, .int (iI (z + 2))), (6, .int (iI 1)), (5, .int (iI (pcl c_2.2.2.1))), (4, .int (iI i)), (2, .int (iI b)), (1, .int (iI p)), (0, .ref A.m)]) C dX4_scoreOf_75 rfl (by rw [hnL]; decide) rfl ?_
            refine z_iload_n (pc := 76) (j := 0) C dX4_scoreOf_76 rfl rfl ?_
            refine z_iload (pc := 77) (j := 1) C dX4_scoreOf_77 rfl ?_
            refine z_if_eq (pc := 79) (tgt := 86) C dX4_scoreOf_79 (by decide) (by decide) (fun z => absurd z (by decide)) (fun _ => ?_)
            refine z_iconst (pc := 82) C dX4_scoreOf_82 ?_
            refine z_goto (pc := 83) (tgt := 87) C dX4_scoreOf_83 (by decide) ?_
            refine z_iadd (pc := 87) C dX4_scoreOf_87 ?_
            refine z_istore_n (pc := 88) (L' := [(3, .int (iI ((z + 2) + 1))), (6, .int (iI 1)), (5, .int (iI (pcl c_2.2.2.1))), (4, .int (iI i)), (2, .int (iI b)), (1, .int (iI p)), (0, .ref A.m)]) C dX4_scoreOf_88 rfl (by rw [hnL]; decide) rfl ?_
            refine z_iload_n (pc := 89) (j := 0) C dX4_scoreOf_89 rfl rfl ?_
            refine z_iload (pc := 90) (j := 1) C dX4_scoreOf_90 rfl ?_
            refine z_if_eq (pc := 92) (tgt := 118) C dX4_scoreOf_92 (by decide) (by decide) (fun z => absurd z (by decide)) (fun _ => ?_)
            refine z_aload_n (pc := 95) (j := 6) C dX4_scoreOf_95 rfl rfl ?_
            refine z_getfield (pc := 96) (v := .ref A.v) C in_X4 rfl 0 (by decide) q2082 (fun _ z => z) gm_1 rfl dX4_scoreOf_96 ?_
            refine z_iload (pc := 99) (j := 3) C dX4_scoreOf_99 rfl ?_
            refine z_callS (pc := 101) (n := 1) (kc' := 0) (ks' := 0) C (m_chord C.t (x := i)) (lw_S q2203 q2204 q74 q2205) (by decide +kernel) ⟨by decide, by decide⟩ rfl rfl (Nat.le_of_ble_eq_true rfl) dX4_scoreOf_101 (by omega) (by omega) (zpk (st' := [.int (iI (210 + 5 * i)), .ref A.v, .int (iI ((z + 2) + 1))]) rfl ?_) zrx
            refine z_iconst (pc := 104) C dX4_scoreOf_104 ?_
            refine z_iadd (pc := 105) C dX4_scoreOf_105 ?_
            refine z_iaload (pc := 106) (v := .int (iI c_2.2.2.2.1)) C gv_1 (by omega) (mA_e (vE hx4_2 (by omega))) dX4_scoreOf_106 ?_
            refine z_callS (pc := 107) (n := 1) (kc' := 0) (ks' := 0) C (m_minor C.t (q := c_2.2.2.2.1) (by omega)) (lw_S q2227 q2228 q74 q2229) (by decide +kernel) ⟨by decide, by decide⟩ rfl rfl (Nat.le_of_ble_eq_true rfl) dX4_scoreOf_107 (by omega) (by omega) (zpk (st' := [.int (iI (cmn c_2.2.2.2.1)), .int (iI ((z + 2) + 1))]) rfl ?_) zrx
            have hcm110 : cmn c_2.2.2.2.1 = 0 ∨ cmn c_2.2.2.2.1 = 1 := by unfold cmn; split <;> omega
            refine z_iload_n (pc := 110) (j := 4) C dX4_scoreOf_110 rfl rfl ?_
            refine z_icmp_ne (pc := 111) (tgt := 118) C dX4_scoreOf_111 (by decide) (by omega) (by omega) (fun c111 => ?_) (fun c111 => ?_)
            · refine z_iconst (pc := 118) C dX4_scoreOf_118 ?_
              refine z_iadd (pc := 119) C dX4_scoreOf_119 ?_
              refine z_istore_n (pc := 120) (L' := [(3, .int (iI (((z + 2) + 1) + 0))), (6, .int (iI 1)), (5, .int (iI (pcl c_2.2.2.1))), (4, .int (iI i)), (2, .int (iI b)), (1, .int (iI p)), (0, .ref A.m)]) C dX4_scoreOf_120 rfl (by rw [hnL]; decide) rfl ?_
              refine z_iload_n (pc := 121) (j := 0) C dX4_scoreOf_121 rfl rfl ?_
              refine z_iload (pc := 122) (j := 1) C dX4_scoreOf_122 rfl ?_
              refine z_if_eq (pc := 124) (tgt := 144) C dX4_scoreOf_124 (by decide) (by decide) (fun z => absurd z (by decide)) (fun _ => ?_)
              refine z_iload (pc := 127) (j := 3) C dX4_scoreOf_127 rfl ?_
              refine z_aload_n (pc := 129) (j := 6) C dX4_scoreOf_129 rfl rfl ?_
              refine z_getfield (pc := 130) (v := .ref A.v) C in_X4 rfl 0 (by decide) q2082 (fun _ z => z) gm_1 rfl dX4_scoreOf_130 ?_
              refine z_iconst (pc := 133) C dX4_scoreOf_133 ?_
              refine z_iaload (pc := 134) (v := .int (iI ((S.cs.length : Nat) : Int))) C gv_1 (by omega) (mA_e (vE hS.2.1 (by omega))) dX4_scoreOf_134 ?_
              refine z_iconst (pc := 135) C dX4_scoreOf_135 ?_
              refine z_isub (pc := 136) C dX4_scoreOf_136 ?_
              refine z_icmp_ne (pc := 137) (tgt := 144) C dX4_scoreOf_137 (by decide) (by omega) (by omega) (fun c137 => ?_) (fun c137 => ?_)
              · refine z_iconst (pc := 144) C dX4_scoreOf_144 ?_
                refine z_iadd (pc := 145) C dX4_scoreOf_145 ?_
                refine z_istore_n (pc := 146) (L' := [(3, .int (iI ((((z + 2) + 1) + 0) + 0))), (6, .int (iI 1)), (5, .int (iI (pcl c_2.2.2.1))), (4, .int (iI i)), (2, .int (iI b)), (1, .int (iI p)), (0, .ref A.m)]) C dX4_scoreOf_146 rfl (by rw [hnL]; decide) rfl ?_
                refine z_iinc (pc := 147) (k := 3) (L' := [(4, .int (iI (i + 1))), (3, .int (iI ((((z + 2) + 1) + 0) + 0))), (6, .int (iI 1)), (5, .int (iI (pcl c_2.2.2.1))), (2, .int (iI b)), (1, .int (iI p)), (0, .ref A.m)]) C dX4_scoreOf_147 rfl (by rw [hnL]; decide) rfl ?_
                refine z_goto (pc := 150) (tgt := 5) C dX4_scoreOf_150 (by decide) ?_
                refine Z.weak (L' := [(4, .int (iI (i + 1))), (3, .int (iI ((((z + 2) + 1) + 0) + 0))), (2, .int (iI b)), (1, .int (iI p)), (0, .ref A.m)]) (kc' := 0) (ks' := 0) [0, 1, 4, 5, 6] rfl (by omega) (by omega) ?_
                exact ih5 _ (by omega) (i + 1) ((((z + 2) + 1) + 0) + 0) (by omega) (by rw [scl_step hc_2 (by omega)] at hd; (repeat' split at hd) <;> omega) rfl
              · refine z_iconst (pc := 140) C dX4_scoreOf_140 ?_
                refine z_goto (pc := 141) (tgt := 145) C dX4_scoreOf_141 (by decide) ?_
                refine z_iadd (pc := 145) C dX4_scoreOf_145 ?_
                refine z_istore_n (pc := 146) (L' := [(3, .int (iI ((((z + 2) + 1) + 0) + 2))), (6, .int (iI 1)), (5, .int (iI (pcl c_2.2.2.1))), (4, .int (iI i)), (2, .int (iI b)), (1, .int (iI p)), (0, .ref A.m)]) C dX4_scoreOf_146 rfl (by rw [hnL]; decide) rfl ?_
                refine z_iinc (pc := 147) (k := 3) (L' := [(4, .int (iI (i + 1))), (3, .int (iI ((((z + 2) + 1) + 0) + 2))), (6, .int (iI 1)), (5, .int (iI (pcl c_2.2.2.1))), (2, .int (iI b)), (1, .int (iI p)), (0, .ref A.m)]) C dX4_scoreOf_147 rfl (by rw [hnL]; decide) rfl ?_
                refine z_goto (pc := 150) (tgt := 5) C dX4_scoreOf_150 (by decide) ?_
                refine Z.weak (L' := [(4, .int (iI (i + 1))), (3, .int (iI ((((z + 2) + 1) + 0) + 2))), (2, .int (iI b)), (1, .int (iI p)), (0, .ref A.m)]) (kc' := 0) (ks' := 0) [0, 1, 4, 5, 6] rfl (by omega) (by omega) ?_
                exact ih5 _ (by omega) (i + 1) ((((z + 2) + 1) + 0) + 2) (by omega) (by rw [scl_step hc_2 (by omega)] at hd; (repeat' split at hd) <;> omega) rfl
            · refine z_iconst (pc := 114) C dX4_scoreOf_114 ?_
              refine z_goto (pc := 115) (tgt := 119) C dX4_scoreOf_115 (by decide) ?_
              refine z_iadd (pc := 119) C dX4_scoreOf_119 ?_
              refine z_istore_n (pc := 120) (L' := [(3, .int (iI (((z + 2) + 1) + 1))), (6, .int (iI 1)), (5, .int (iI (pcl c_2.2.2.1))), (4, .int (iI i)), (2, .int (iI b)), (1, .int (iI p)), (0, .ref A.m)]) C dX4_scoreOf_120 rfl (by rw [hnL]; decide) rfl ?_
              refine z_iload_n (pc := 121) (j := 0) C dX4_scoreOf_121 rfl rfl ?_
              refine z_iload (pc := 122) (j := 1) C dX4_scoreOf_122 rfl ?_
              refine z_if_eq (pc := 124) (tgt := 144) C dX4_scoreOf_124 (by decide) (by decide) (fun z => absurd z (by decide)) (fun _ => ?_)
              refine z_iload (pc := 127) (j := 3) C dX4_scoreOf_127 rfl ?_
              refine z_aload_n (pc := 129) (j := 6) C dX4_scoreOf_129 rfl rfl ?_
              refine z_getfield (pc := 130) (v := .ref A.v) C in_X4 rfl 0 (by decide) q2082 (fun _ z => z) gm_1 rfl dX4_scoreOf_130 ?_
              refine z_iconst (pc := 133) C dX4_scoreOf_133 ?_
              refine z_iaload (pc := 134) (v := .int (iI ((S.cs.length : Nat) : Int))) C gv_1 (by omega) (mA_e (vE hS.2.1 (by omega))) dX4_scoreOf_134 ?_
              refine z_iconst (pc := 135) C dX4_scoreOf_135 ?_
              refine z_isub (pc := 136) C dX4_scoreOf_136 ?_
              refine z_icmp_ne (pc := 137) (tgt := 144) C dX4_scoreOf_137 (by decide) (by omega) (by omega) (fun c137 => ?_) (fun c137 => ?_)
              · refine z_iconst (pc := 144) C dX4_scoreOf_144 ?_
                refine z_iadd (pc := 145) C dX4_scoreOf_145 ?_
                refine z_istore_n (pc := 146) (L' := [(3, .int (iI ((((z + 2) + 1) + 1) + 0))), (6, .int (iI 1)), (5, .int (iI (pcl c_2.2.2.1))), (4, .int (iI i)), (2, .int (iI b)), (1, .int (iI p)), (0, .ref A.m)]) C dX4_scoreOf_146 rfl (by rw [hnL]; decide) rfl ?_
                refine z_iinc (pc := 147) (k := 3) (L' := [(4, .int (iI (i + 1))), (3, .int (iI ((((z + 2) + 1) + 1) + 0))), (6, .int (iI 1)), (5, .int (iI (pcl c_2.2.2.1))), (2, .int (iI b)), (1, .int (iI p)), (0, .ref A.m)]) C dX4_scoreOf_147 rfl (by rw [hnL]; decide) rfl ?_
                refine z_goto (pc := 150) (tgt := 5) C dX4_scoreOf_150 (by decide) ?_
                refine Z.weak (L' := [(4, .int (iI (i + 1))), (3, .int (iI ((((z + 2) + 1) + 1) + 0))), (2, .int (iI b)), (1, .int (iI p)), (0, .ref A.m)]) (kc' := 0) (ks' := 0) [0, 1, 4, 5, 6] rfl (by omega) (by omega) ?_
                exact ih5 _ (by omega) (i + 1) ((((z + 2) + 1) + 1) + 0) (by omega) (by rw [scl_step hc_2 (by omega)] at hd; (repeat' split at hd) <;> omega) rfl
              · refine z_iconst (pc := 140) C dX4_scoreOf_140 ?_
                refine z_goto (pc := 141) (tgt := 145) C dX4_scoreOf_141 (by decide) ?_
                refine z_iadd (pc := 145) C dX4_scoreOf_145 ?_
                refine z_istore_n (pc := 146) (L' := [(3, .int (iI ((((z + 2) + 1) + 1) + 2))), (6, .int (iI 1)), (5, .int (iI (pcl c_2.2.2.1))), (4, .int (iI i)), (2, .int (iI b)), (1, .int (iI p)), (0, .ref A.m)]) C dX4_scoreOf_146 rfl (by rw [hnL]; decide) rfl ?_
                refine z_iinc (pc := 147) (k := 3) (L' := [(4, .int (iI (i + 1))), (3, .int (iI ((((z + 2) + 1) + 1) + 2))), (6, .int (iI 1)), (5, .int (iI (pcl c_2.2.2.1))), (2, .int (iI b)), (1, .int (iI p)), (0, .ref A.m)]) C dX4_scoreOf_147 rfl (by rw [hnL]; decide) rfl ?_
                refine z_goto (pc := 150) (tgt := 5) C dX4_scoreOf_150 (by decide) ?_
                refine Z.weak (L' := [(4, .int (iI (i + 1))), (3, .int (iI ((((z + 2) + 1) + 1) + 2))), (2, .int (iI b)), (1, .int (iI p)), (0, .ref A.m)]) (kc' := 0) (ks' := 0) [0, 1, 4, 5, 6] rfl (by omega) (by omega) ?_
                exact ih5 _ (by omega) (i + 1) ((((z + 2) + 1) + 1) + 2) (by omega) (by rw [scl_step hc_2 (by omega)] at hd; (repeat' split at hd) <;> omega) rfl
        · refine z_iload_n (pc := 54) (j := 5) C dX4_scoreOf_54 rfl rfl ?_
          refine z_iconst (pc := 55) C dX4_scoreOf_55 ?_
          refine z_isub (pc := 56) C dX4_scoreOf_56 ?_
          refine z_goto (pc := 57) (tgt := 61) C dX4_scoreOf_57 (by decide) ?_
          refine z_iload (pc := 61) (j := 1) C dX4_scoreOf_61 rfl ?_
          refine z_callS (pc := 63) (n := 2) (kc' := 0) (ks' := 0) C (m_scale C.t (s := p - 3) (p := pcl c_2.2.2.1) (by omega) (by omega)) (lw_S q2224 q2225 q74 q2226) (by decide +kernel) ⟨by decide, by decide⟩ rfl rfl (Nat.le_of_ble_eq_true rfl) dX4_scoreOf_63 (by omega) (by omega) (zpk (st' := [.int (iI (iscl (p - 3) (pcl c_2.2.2.1))), .int (iI z)]) rfl ?_) zrx
          have hisc66 := iscl_r (p - 3) (pcl c_2.2.2.1)
          rw [show (iscl (p - 3) (pcl c_2.2.2.1) : Int) = insc p b (pcl c_2.2.2.1) by rw [← iscl_c, show sgn p b = (p - 3) by unfold sgn; split <;> omega]]
          have hin66 := insc_r p b (pcl c_2.2.2.1)
          show Z X h 0 0 [(6, .int (iI 1)), (5, .int (iI (pcl c_2.2.2.1))), (4, .int (iI i)), (3, .int (iI z)), (2, .int (iI b)), (1, .int (iI p)), (0, .ref A.m)] 66 [.int (iI (insc p b (pcl c_2.2.2.1))), .int (iI z)]
          refine z_if_eq (pc := 66) (tgt := 73) C dX4_scoreOf_66 (by decide) (by omega) (fun c66 => ?_) (fun c66 => ?_)
          · refine z_iconst (pc := 73) C dX4_scoreOf_73 ?_
            refine z_iadd (pc := 74) C dX4_scoreOf_74 ?_
            refine z_istore_n (pc := 75) (L' := [(3, .int (iI (z + 0))), (6, .int (iI 1)), (5, .int (iI (pcl c_2.2.2.1))), (4, .int (iI i)), (2, .int (iI b)), (1, .int (iI p)), (0, .ref A.m)]) C dX4_scoreOf_75 rfl (by rw [hnL]; decide) rfl ?_
            refine z_iload_n (pc := 76) (j := 0) C dX4_scoreOf_76 rfl rfl ?_
            refine z_iload (pc := 77) (j := 1) C dX4_scoreOf_77 rfl ?_
            refine z_if_eq (pc := 79) (tgt := 86) C dX4_scoreOf_79 (by decide) (by decide) (fun z => absurd z (by decide)) (fun _ => ?_)
            refine z_iconst (pc := 82) C dX4_scoreOf_82 ?_
            refine z_goto (pc := 83) (tgt := 87) C dX4_scoreOf_83 (by decide) ?_
            refine z_iadd (pc := 87) C dX4_scoreOf_87 ?_
            refine z_istore_n (pc := 88) (L' := [(3, .int (iI ((z + 0) + 1))), (6, .int (iI 1)), (5, .int (iI (pcl c_2.2.2.1))), (4, .int (iI i)), (2, .int (iI b)), (1, .int (iI p)), (0, .ref A.m)]) C dX4_scoreOf_88 rfl (by rw [hnL]; decide) rfl ?_
            refine z_iload_n (pc := 89) (j := 0) C dX4_scoreOf_89 rfl rfl ?_
            refine z_iload (pc := 90) (j := 1) C dX4_scoreOf_90 rfl ?_
            refine z_if_eq (pc := 92) (tgt := 118) C dX4_scoreOf_92 (by decide) (by decide) (fun z => absurd z (by decide)) (fun _ => ?_)
            refine z_aload_n (pc := 95) (j := 6) C dX4_scoreOf_95 rfl rfl ?_
            refine z_getfield (pc := 96) (v := .ref A.v) C in_X4 rfl 0 (by decide) q2082 (fun _ z => z) gm_1 rfl dX4_scoreOf_96 ?_
            refine z_iload (pc := 99) (j := 3) C dX4_scoreOf_99 rfl ?_
            refine z_callS (pc := 101) (n := 1) (kc' := 0) (ks' := 0) C (m_chord C.t (x := i)) (lw_S q2203 q2204 q74 q2205) (by decide +kernel) ⟨by decide, by decide⟩ rfl rfl (Nat.le_of_ble_eq_true rfl) dX4_scoreOf_101 (by omega) (by omega) (zpk (st' := [.int (iI (210 + 5 * i)), .ref A.v, .int (iI ((z + 0) + 1))]) rfl ?_) zrx
            refine z_iconst (pc := 104) C dX4_scoreOf_104 ?_
            refine z_iadd (pc := 105) C dX4_scoreOf_105 ?_
            refine z_iaload (pc := 106) (v := .int (iI c_2.2.2.2.1)) C gv_1 (by omega) (mA_e (vE hx4_2 (by omega))) dX4_scoreOf_106 ?_
            refine z_callS (pc := 107) (n := 1) (kc' := 0) (ks' := 0) C (m_minor C.t (q := c_2.2.2.2.1) (by omega)) (lw_S q2227 q2228 q74 q2229) (by decide +kernel) ⟨by decide, by decide⟩ rfl rfl (Nat.le_of_ble_eq_true rfl) dX4_scoreOf_107 (by omega) (by omega) (zpk (st' := [.int (iI (cmn c_2.2.2.2.1)), .int (iI ((z + 0) + 1))]) rfl ?_) zrx
            have hcm110 : cmn c_2.2.2.2.1 = 0 ∨ cmn c_2.2.2.2.1 = 1 := by unfold cmn; split <;> omega
            refine z_iload_n (pc := 110) (j := 4) C dX4_scoreOf_110 rfl rfl ?_
            refine z_icmp_ne (pc := 111) (tgt := 118) C dX4_scoreOf_111 (by decide) (by omega) (by omega) (fun c111 => ?_) (fun c111 => ?_)
            · refine z_iconst (pc := 118) C dX4_scoreOf_118 ?_
              refine z_iadd (pc := 119) C dX4_scoreOf_119 ?_
              refine z_istore_n (pc := 120) (L' := [(3, .int (iI (((z + 0) + 1) + 0))), (6, .int (iI 1)), (5, .int (iI (pcl c_2.2.2.1))), (4, .int (iI i)), (2, .int (iI b)), (1, .int (iI p)), (0, .ref A.m)]) C dX4_scoreOf_120 rfl (by rw [hnL]; decide) rfl ?_
              refine z_iload_n (pc := 121) (j := 0) C dX4_scoreOf_121 rfl rfl ?_
              refine z_iload (pc := 122) (j := 1) C dX4_scoreOf_122 rfl ?_
              refine z_if_eq (pc := 124) (tgt := 144) C dX4_scoreOf_124 (by decide) (by decide) (fun z => absurd z (by decide)) (fun _ => ?_)
              refine z_iload (pc := 127) (j := 3) C dX4_scoreOf_127 rfl ?_
              refine z_aload_n (pc := 129) (j := 6) C dX4_scoreOf_129 rfl rfl ?_
              refine z_getfield (pc := 130) (v := .ref A.v) C in_X4 rfl 0 (by decide) q2082 (fun _ z => z) gm_1 rfl dX4_scoreOf_130 ?_
              refine z_iconst (pc := 133) C dX4_scoreOf_133 ?_
              refine z_iaload (pc := 134) (v := .int (iI ((S.cs.length : Nat) : Int))) C gv_1 (by omega) (mA_e (vE hS.2.1 (by omega))) dX4_scoreOf_134 ?_
              refine z_iconst (pc := 135) C dX4_scoreOf_135 ?_
              refine z_isub (pc := 136) C dX4_scoreOf_136 ?_
              refine z_icmp_ne (pc := 137) (tgt := 144) C dX4_scoreOf_137 (by decide) (by omega) (by omega) (fun c137 => ?_) (fun c137 => ?_)
              · refine z_iconst (pc := 144) C dX4_scoreOf_144 ?_
                refine z_iadd (pc := 145) C dX4_scoreOf_145 ?_
                refine z_istore_n (pc := 146) (L' := [(3, .int (iI ((((z + 0) + 1) + 0) + 0))), (6, .int (iI 1)), (5, .int (iI (pcl c_2.2.2.1))), (4, .int (iI i)), (2, .int (iI b)), (1, .int (iI p)), (0, .ref A.m)]) C dX4_scoreOf_146 rfl (by rw [hnL]; decide) rfl ?_
                refine z_iinc (pc := 147) (k := 3) (L' := [(4, .int (iI (i + 1))), (3, .int (iI ((((z + 0) + 1) + 0) + 0))), (6, .int (iI 1)), (5, .int (iI (pcl c_2.2.2.1))), (2, .int (iI b)), (1, .int (iI p)), (0, .ref A.m)]) C dX4_scoreOf_147 rfl (by rw [hnL]; decide) rfl ?_
                refine z_goto (pc := 150) (tgt := 5) C dX4_scoreOf_150 (by decide) ?_
                refine Z.weak (L' := [(4, .int (iI (i + 1))), (3, .int (iI ((((z + 0) + 1) + 0) + 0))), (2, .int (iI b)), (1, .int (iI p)), (0, .ref A.m)]) (kc' := 0) (ks' := 0) [0, 1, 4, 5, 6] rfl (by omega) (by omega) ?_
                exact ih5 _ (by omega) (i + 1) ((((z + 0) + 1) + 0) + 0) (by omega) (by rw [scl_step hc_2 (by omega)] at hd; (repeat' split at hd) <;> omega) rfl
              · refine z_iconst (pc := 140) C dX4_scoreOf_140 ?_
                refine z_goto (pc := 141) (tgt := 145) C dX4_scoreOf_141 (by decide) ?_
                refine z_iadd (pc := 145) C dX4_scoreOf_145 ?_
                refine z_istore_n (pc := 146) (L' := [(3, .int (iI ((((z + 0) + 1) + 0) + 2))), (6, .int (iI 1)), (5, .int (iI (pcl c_2.2.2.1))), (4, .int (iI i)), (2, .int (iI b)), (1, .int (iI p)), (0, .ref A.m)]) C dX4_scoreOf_146 rfl (by rw [hnL]; decide) rfl ?_
                refine z_iinc (pc := 147) (k := 3) (L' := [(4, .int (iI (i + 1))), (3, .int (iI ((((z + 0) + 1) + 0) + 2))), (6, .int (iI 1)), (5, .int (iI (pcl c_2.2.2.1))), (2, .int (iI b)), (1, .int (iI p)), (0, .ref A.m)]) C dX4_scoreOf_147 rfl (by rw [hnL]; decide) rfl ?_
                refine z_goto (pc := 150) (tgt := 5) C dX4_scoreOf_150 (by decide) ?_
                refine Z.weak (L' := [(4, .int (iI (i + 1))), (3, .int (iI ((((z + 0) + 1) + 0) + 2))), (2, .int (iI b)), (1, .int (iI p)), (0, .ref A.m)]) (kc' := 0) (ks' := 0) [0, 1, 4, 5, 6] rfl (by omega) (by omega) ?_
                exact ih5 _ (by omega) (i + 1) ((((z + 0) + 1) + 0) + 2) (by omega) (by rw [scl_step hc_2 (by omega)] at hd; (repeat' split at hd) <;> omega) rfl
            · refine z_iconst (pc := 114) C dX4_scoreOf_114 ?_
              refine z_goto (pc := 115) (tgt := 119) C dX4_scoreOf_115 (by decide) ?_
              refine z_iadd (pc := 119) C dX4_scoreOf_119 ?_
              refine z_istore_n (pc := 120) (L' := [(3, .int (iI (((z + 0) + 1) + 1))), (6, .int (iI 1)), (5, .int (iI (pcl c_2.2.2.1))), (4, .int (iI i)), (2, .int (iI b)), (1, .int (iI p)), (0, .ref A.m)]) C dX4_scoreOf_120 rfl (by rw [hnL]; decide) rfl ?_
              refine z_iload_n (pc := 121) (j := 0) C dX4_scoreOf_121 rfl rfl ?_
              refine z_iload (pc := 122) (j := 1) C dX4_scoreOf_122 rfl ?_
              refine z_if_eq (pc := 124) (tgt := 144) C dX4_scoreOf_124 (by decide) (by decide) (fun z => absurd z (by decide)) (fun _ => ?_)
              refine z_iload (pc := 127) (j := 3) C dX4_scoreOf_127 rfl ?_
              refine z_aload_n (pc := 129) (j := 6) C dX4_scoreOf_129 rfl rfl ?_
              refine z_getfield (pc := 130) (v := .ref A.v) C in_X4 rfl 0 (by decide) q2082 (fun _ z => z) gm_1 rfl dX4_scoreOf_130 ?_
              refine z_iconst (pc := 133) C dX4_scoreOf_133 ?_
              refine z_iaload (pc := 134) (v := .int (iI ((S.cs.length : Nat) : Int))) C gv_1 (by omega) (mA_e (vE hS.2.1 (by omega))) dX4_scoreOf_134 ?_
              refine z_iconst (pc := 135) C dX4_scoreOf_135 ?_
              refine z_isub (pc := 136) C dX4_scoreOf_136 ?_
              refine z_icmp_ne (pc := 137) (tgt := 144) C dX4_scoreOf_137 (by decide) (by omega) (by omega) (fun c137 => ?_) (fun c137 => ?_)
              · refine z_iconst (pc := 144) C dX4_scoreOf_144 ?_
                refine z_iadd (pc := 145) C dX4_scoreOf_145 ?_
                refine z_istore_n (pc := 146) (L' := [(3, .int (iI ((((z + 0) + 1) + 1) + 0))), (6, .int (iI 1)), (5, .int (iI (pcl c_2.2.2.1))), (4, .int (iI i)), (2, .int (iI b)), (1, .int (iI p)), (0, .ref A.m)]) C dX4_scoreOf_146 rfl (by rw [hnL]; decide) rfl ?_
                refine z_iinc (pc := 147) (k := 3) (L' := [(4, .int (iI (i + 1))), (3, .int (iI ((((z + 0) + 1) + 1) + 0))), (6, .int (iI 1)), (5, .int (iI (pcl c_2.2.2.1))), (2, .int (iI b)), (1, .int (iI p)), (0, .ref A.m)]) C dX4_scoreOf_147 rfl (by rw [hnL]; decide) rfl ?_
                refine z_goto (pc := 150) (tgt := 5) C dX4_scoreOf_150 (by decide) ?_
                refine Z.weak (L' := [(4, .int (iI (i + 1))), (3, .int (iI ((((z + 0) + 1) + 1) + 0))), (2, .int (iI b)), (1, .int (iI p)), (0, .ref A.m)]) (kc' := 0) (ks' := 0) [0, 1, 4, 5, 6] rfl (by omega) (by omega) ?_
                exact ih5 _ (by omega) (i + 1) ((((z + 0) + 1) + 1) + 0) (by omega) (by rw [scl_step hc_2 (by omega)] at hd; (repeat' split at hd) <;> omega) rfl
              · refine z_iconst (pc := 140) C dX4_scoreOf_140 ?_
                refine z_goto (pc := 141) (tgt := 145) C dX4_scoreOf_141 (by decide) ?_
                refine z_iadd (pc := 145) C dX4_scoreOf_145 ?_
                refine z_istore_n (pc := 146) (L' := [(3, .int (iI ((((z + 0) + 1) + 1) + 2))), (6, .int (iI 1)), (5, .int (iI (pcl c_2.2.2.1))), (4, .int (iI i)), (2, .int (iI b)), (1, .int (iI p)), (0, .ref A.m)]) C dX4_scoreOf_146 rfl (by rw [hnL]; decide) rfl ?_
                refine z_iinc (pc := 147) (k := 3) (L' := [(4, .int (iI (i + 1))), (3, .int (iI ((((z + 0) + 1) + 1) + 2))), (6, .int (iI 1)), (5, .int (iI (pcl c_2.2.2.1))), (2, .int (iI b)), (1, .int (iI p)), (0, .ref A.m)]) C dX4_scoreOf_147 rfl (by rw [hnL]; decide) rfl ?_
                refine z_goto (pc := 150) (tgt := 5) C dX4_scoreOf_150 (by decide) ?_
                refine Z.weak (L' := [(4, .int (iI (i + 1))), (3, .int (iI ((((z + 0) + 1) + 1) + 2))), (2, .int (iI b)), (1, .int (iI p)), (0, .ref A.m)]) (kc' := 0) (ks' := 0) [0, 1, 4, 5, 6] rfl (by omega) (by omega) ?_
                exact ih5 _ (by omega) (i + 1) ((((z + 0) + 1) + 1) + 2) (by omega) (by rw [scl_step hc_2 (by omega)] at hd; (repeat' split at hd) <;> omega) rfl
          · refine z_iconst (pc := 69) C dX4_scoreOf_69 ?_
            refine z_goto (pc := 70) (tgt := 74) C dX4_scoreOf_70 (by decide) ?_
            refine z_iadd (pc := 74) C dX4_scoreOf_74 ?_
            refine z_istore_n (pc := 75) (L' := [(3, .int (iI (z + 2))), (6, .int (iI 1)), (5, .int (iI (pcl c_2.2.2.1))), (4, .int (iI i)), (2, .int (iI b)), (1, .int (iI p)), (0, .ref A.m)]) C dX4_scoreOf_75 rfl (by rw [hnL]; decide) rfl ?_
            refine z_iload_n (pc := 76) (j := 0) C dX4_scoreOf_76 rfl rfl ?_
            refine z_iload (pc := 77) (j := 1) C dX4_scoreOf_77 rfl ?_
            refine z_if_eq (pc := 79) (tgt := 86) C dX4_scoreOf_79 (by decide) (by decide) (fun z => absurd z (by decide)) (fun _ => ?_)
            refine z_iconst (pc := 82) C dX4_scoreOf_82 ?_
            refine z_goto (pc := 83) (tgt := 87) C dX4_scoreOf_83 (by decide) ?_
            refine z_iadd (pc := 87) C dX4_scoreOf_87 ?_
            refine z_istore_n (pc := 88) (L' := [(3, .int (iI ((z + 2) + 1))), (6, .int (iI 1)), (5, .int (iI (pcl c_2.2.2.1))), (4, .int (iI i)), (2, .int (iI b)), (1, .int (iI p)), (0, .ref A.m)]) C dX4_scoreOf_88 rfl (by rw [hnL]; decide) rfl ?_
            refine z_iload_n (pc := 89) (j := 0) C dX4_scoreOf_89 rfl rfl ?_
            refine z_iload (pc := 90) (j := 1) C dX4_scoreOf_90 rfl ?_
            refine z_if_eq (pc := 92) (tgt := 118) C dX4_scoreOf_92 (by decide) (by decide) (fun z => absurd z (by decide)) (fun _ => ?_)
            refine z_aload_n (pc := 95) (j := 6) C dX4_scoreOf_95 rfl rfl ?_
            refine z_getfield (pc := 96) (v := .ref A.v) C in_X4 rfl 0 (by decide) q2082 (fun _ z => z) gm_1 rfl dX4_scoreOf_96 ?_
            refine z_iload (pc := 99) (j := 3) C dX4_scoreOf_99 rfl ?_
            refine z_callS (pc := 101) (n := 1) (kc' := 0) (ks' := 0) C (m_chord C.t (x := i)) (lw_S q2203 q2204 q74 q2205) (by decide +kernel) ⟨by decide, by decide⟩ rfl rfl (Nat.le_of_ble_eq_true rfl) dX4_scoreOf_101 (by omega) (by omega) (zpk (st' := [.int (iI (210 + 5 * i)), .ref A.v, .int (iI ((z + 2) + 1))]) rfl ?_) zrx
            refine z_iconst (pc := 104) C dX4_scoreOf_104 ?_
            refine z_iadd (pc := 105) C dX4_scoreOf_105 ?_
            refine z_iaload (pc := 106) (v := .int (iI c_2.2.2.2.1)) C gv_1 (by omega) (mA_e (vE hx4_2 (by omega))) dX4_scoreOf_106 ?_
            refine z_callS (pc := 107) (n := 1) (kc' := 0) (ks' := 0) C (m_minor C.t (q := c_2.2.2.2.1) (by omega)) (lw_S q2227 q2228 q74 q2229) (by decide +kernel) ⟨by decide, by decide⟩ rfl rfl (Nat.le_of_ble_eq_true rfl) dX4_scoreOf_107 (by omega) (by omega) (zpk (st' := [.int (iI (cmn c_2.2.2.2.1)), .int (iI ((z + 2) + 1))]) rfl ?_) zrx
            have hcm110 : cmn c_2.2.2.2.1 = 0 ∨ cmn c_2.2.2.2.1 = 1 := by unfold cmn; split <;> omega
            refine z_iload_n (pc := 110) (j := 4) C dX4_scoreOf_110 rfl rfl ?_
            refine z_icmp_ne (pc := 111) (tgt := 118) C dX4_scoreOf_111 (by decide) (by omega) (by omega) (fun c111 => ?_) (fun c111 => ?_)
            · refine z_iconst (pc := 118) C dX4_scoreOf_118 ?_
              refine z_iadd (pc := 119) C dX4_scoreOf_119 ?_
              refine z_istore_n (pc := 120) (L' := [(3, .int (iI (((z + 2) + 1) + 0))), (6, .int (iI 1)), (5, .int (iI (pcl c_2.2.2.1))), (4, .int (iI i)), (2, .int (iI b)), (1, .int (iI p)), (0, .ref A.m)]) C dX4_scoreOf_120 rfl (by rw [hnL]; decide) rfl ?_
              refine z_iload_n (pc := 121) (j := 0) C dX4_scoreOf_121 rfl rfl ?_
              refine z_iload (pc := 122) (j := 1) C dX4_scoreOf_122 rfl ?_
              refine z_if_eq (pc := 124) (tgt := 144) C dX4_scoreOf_124 (by decide) (by decide) (fun z => absurd z (by decide)) (fun _ => ?_)
              refine z_iload (pc := 127) (j := 3) C dX4_scoreOf_127 rfl ?_
              refine z_aload_n (pc := 129) (j := 6) C dX4_scoreOf_129 rfl rfl ?_
              refine z_getfield (pc := 130) (v := .ref A.v) C in_X4 rfl 0 (by decide) q2082 (fun _ z => z) gm_1 rfl dX4_scoreOf_130 ?_
              refine z_iconst (pc := 133) C dX4_scoreOf_133 ?_
              refine z_iaload (pc := 134) (v := .int (iI ((S.cs.length : Nat) : Int))) C gv_1 (by omega) (mA_e (vE hS.2.1 (by omega))) dX4_scoreOf_134 ?_
              refine z_iconst (pc := 135) C dX4_scoreOf_135 ?_
              refine z_isub (pc := 136) C dX4_scoreOf_136 ?_
              refine z_icmp_ne (pc := 137) (tgt := 144) C dX4_scoreOf_137 (by decide) (by omega) (by omega) (fun c137 => ?_) (fun c137 => ?_)
              · refine z_iconst (pc := 144) C dX4_scoreOf_144 ?_
                refine z_iadd (pc := 145) C dX4_scoreOf_145 ?_
                refine z_istore_n (pc := 146) (L' := [(3, .int (iI ((((z + 2) + 1) + 0) + 0))), (6, .int (iI 1)), (5, .int (iI (pcl c_2.2.2.1))), (4, .int (iI i)), (2, .int (iI b)), (1, .int (iI p)), (0, .ref A.m)]) C dX4_scoreOf_146 rfl (by rw [hnL]; decide) rfl ?_
                refine z_iinc (pc := 147) (k := 3) (L' := [(4, .int (iI (i + 1))), (3, .int (iI ((((z + 2) + 1) + 0) + 0))), (6, .int (iI 1)), (5, .int (iI (pcl c_2.2.2.1))), (2, .int (iI b)), (1, .int (iI p)), (0, .ref A.m)]) C dX4_scoreOf_147 rfl (by rw [hnL]; decide) rfl ?_
                refine z_goto (pc := 150) (tgt := 5) C dX4_scoreOf_150 (by decide) ?_
                refine Z.weak (L' := [(4, .int (iI (i + 1))), (3, .int (iI ((((z + 2) + 1) + 0) + 0))), (2, .int (iI b)), (1, .int (iI p)), (0, .ref A.m)]) (kc' := 0) (ks' := 0) [0, 1, 4, 5, 6] rfl (by omega) (by omega) ?_
                exact ih5 _ (by omega) (i + 1) ((((z + 2) + 1) + 0) + 0) (by omega) (by rw [scl_step hc_2 (by omega)] at hd; (repeat' split at hd) <;> omega) rfl
              · refine z_iconst (pc := 140) C dX4_scoreOf_140 ?_
                refine z_goto (pc := 141) (tgt := 145) C dX4_scoreOf_141 (by decide) ?_
                refine z_iadd (pc := 145) C dX4_scoreOf_145 ?_
                refine z_istore_n (pc := 146) (L' := [(3, .int (iI ((((z + 2) + 1) + 0) + 2))), (6, .int (iI 1)), (5, .int (iI (pcl c_2.2.2.1))), (4, .int (iI i)), (2, .int (iI b)), (1, .int (iI p)), (0, .ref A.m)]) C dX4_scoreOf_146 rfl (by rw [hnL]; decide) rfl ?_
                refine z_iinc (pc := 147) (k := 3) (L' := [(4, .int (iI (i + 1))), (3, .int (iI ((((z + 2) + 1) + 0) + 2))), (6, .int (iI 1)), (5, .int (iI (pcl c_2.2.2.1))), (2, .int (iI b)), (1, .int (iI p)), (0, .ref A.m)]) C dX4_scoreOf_147 rfl (by rw [hnL]; decide) rfl ?_
                refine z_goto (pc := 150) (tgt := 5) C dX4_scoreOf_150 (by decide) ?_
                refine Z.weak (L' := [(4, .int (iI (i + 1))), (3, .int (iI ((((z + 2) + 1) + 0) + 2))), (2, .int (iI b)), (1, .int (iI p)), (0, .ref A.m)]) (kc' := 0) (ks' := 0) [0, 1, 4, 5, 6] rfl (by omega) (by omega) ?_
                exact ih5 _ (by omega) (i + 1) ((((z + 2) + 1) + 0) + 2) (by omega) (by rw [scl_step hc_2 (by omega)] at hd; (repeat' split at hd) <;> omega) rfl
            · refine z_iconst (pc := 114) C dX4_scoreOf_114 ?_
              refine z_goto (pc := 115) (tgt := 119) C dX4_scoreOf_115 (by decide) ?_
              refine z_iadd (pc := 119) C dX4_scoreOf_119 ?_
              refine z_istore_n (pc := 120) (L' := [(3, .int (iI (((z + 2) + 1) + 1))), (6, .int (iI 1)), (5, .int (iI (pcl c_2.2.2.1))), (4, .int (iI i)), (2, .int (iI b)), (1, .int (iI p)), (0, .ref A.m)]) C dX4_scoreOf_120 rfl (by rw [hnL]; decide) rfl ?_
              refine z_iload_n (pc := 121) (j := 0) C dX4_scoreOf_121 rfl rfl ?_
              refine z_iload (pc := 122) (j := 1) C dX4_scoreOf_122 rfl ?_
              refine z_if_eq (pc := 124) (tgt := 144) C dX4_scoreOf_124 (by decide) (by decide) (fun z => absurd z (by decide)) (fun _ => ?_)
              refine z_iload (pc := 127) (j := 3) C dX4_scoreOf_127 rfl ?_
              refine z_aload_n (pc := 129) (j := 6) C dX4_scoreOf_129 rfl rfl ?_
              refine z_getfield (pc := 130) (v := .ref A.v) C in_X4 rfl 0 (by decide) q2082 (fun _ z => z) gm_1 rfl dX4_scoreOf_130 ?_
              refine z_iconst (pc := 133) C dX4_scoreOf_133 ?_
              refine z_iaload (pc := 134) (v := .int (iI ((S.cs.length : Nat) : Int))) C gv_1 (by omega) (mA_e (vE hS.2.1 (by omega))) dX4_scoreOf_134 ?_
              refine z_iconst (pc := 135) C dX4_scoreOf_135 ?_
              refine z_isub (pc := 136) C dX4_scoreOf_136 ?_
              refine z_icmp_ne (pc := 137) (tgt := 144) C dX4_scoreOf_137 (by decide) (by omega) (by omega) (fun c137 => ?_) (fun c137 => ?_)
              · refine z_iconst (pc := 144) C dX4_scoreOf_144 ?_
                refine z_iadd (pc := 145) C dX4_scoreOf_145 ?_
                refine z_istore_n (pc := 146) (L' := [(3, .int (iI ((((z + 2) + 1) + 1) + 0))), (6, .int (iI 1)), (5, .int (iI (pcl c_2.2.2.1))), (4, .int (iI i)), (2, .int (iI b)), (1, .int (iI p)), (0, .ref A.m)]) C dX4_scoreOf_146 rfl (by rw [hnL]; decide) rfl ?_
                refine z_iinc (pc := 147) (k := 3) (L' := [(4, .int (iI (i + 1))), (3, .int (iI ((((z + 2) + 1) + 1) + 0))), (6, .int (iI 1)), (5, .int (iI (pcl c_2.2.2.1))), (2, .int (iI b)), (1, .int (iI p)), (0, .ref A.m)]) C dX4_scoreOf_147 rfl (by rw [hnL]; decide) rfl ?_
                refine z_goto (pc := 150) (tgt := 5) C dX4_scoreOf_150 (by decide) ?_
                refine Z.weak (L' := [(4, .int (iI (i + 1))), (3, .int (iI ((((z + 2) + 1) + 1) + 0))), (2, .int (iI b)), (1, .int (iI p)), (0, .ref A.m)]) (kc' := 0) (ks' := 0) [0, 1, 4, 5, 6] rfl (by omega) (by omega) ?_
                exact ih5 _ (by omega) (i + 1) ((((z + 2) + 1) + 1) + 0) (by omega) (by rw [scl_step hc_2 (by omega)] at hd; (repeat' split at hd) <;> omega) rfl
              · refine z_iconst (pc := 140) C dX4_scoreOf_140 ?_
                refine z_goto (pc := 141) (tgt := 145) C dX4_scoreOf_141 (by decide) ?_
                refine z_iadd (pc := 145) C dX4_scoreOf_145 ?_
                refine z_istore_n (pc := 146) (L' := [(3, .int (iI ((((z + 2) + 1) + 1) + 2))), (6, .int (iI 1)), (5, .int (iI (pcl c_2.2.2.1))), (4, .int (iI i)), (2, .int (iI b)), (1, .int (iI p)), (0, .ref A.m)]) C dX4_scoreOf_146 rfl (by rw [hnL]; decide) rfl ?_
                refine z_iinc (pc := 147) (k := 3) (L' := [(4, .int (iI (i + 1))), (3, .int (iI ((((z + 2) + 1) + 1) + 2))), (6, .int (iI 1)), (5, .int (iI (pcl c_2.2.2.1))), (2, .int (iI b)), (1, .int (iI p)), (0, .ref A.m)]) C dX4_scoreOf_147 rfl (by rw [hnL]; decide) rfl ?_
                refine z_goto (pc := 150) (tgt := 5) C dX4_scoreOf_150 (by decide) ?_
                refine Z.weak (L' := [(4, .int (iI (i + 1))), (3, .int (iI ((((z + 2) + 1) + 1) + 2))), (2, .int (iI b)), (1, .int (iI p)), (0, .ref A.m)]) (kc' := 0) (ks' := 0) [0, 1, 4, 5, 6] rfl (by omega) (by omega) ?_
                exact ih5 _ (by omega) (i + 1) ((((z + 2) + 1) + 1) + 2) (by omega) (by rw [scl_step hc_2 (by omega)] at hd; (repeat' split at hd) <;> omega) rfl
  refine Z.weak (L' := [(4, .int (iI 0)), (3, .int (iI 0)), (2, .int (iI b)), (1, .int (iI p)), (0, .ref A.m)]) (kc' := 0) (ks' := 0) [0, 1, 4, 3, 2] rfl (by omega) (by omega) ?_
  exact loop5 _ 0 0 (by omega) (by simp) rfl
set_option maxHeartbeats 4000000 in
theorem m_found {l : Launch} (hl : l.stackTraces = false) {Γ : zCx} {h : zH} {A : zMA} {st ty si ff wd th ap nt rr rq rb wh nd up lo : Int} {V P T M N U W : Nat → Int} (hM : mM h A st ty si ff wd th ap nt rr rq rb wh nd up lo V P T M N U W) {S : zSh} (hS : vS V S) (hsl : shL S) (hsr : shR S)  : zMet l yX4_found (ws_ yX4_found cX4_found 8 (some .int)) ({ frames := 4, cells := 0, slots := 0, locals := 89 }) Γ h [.ref A.m] (zpure h (some (.int (iI ((lik S.cs).1 + 100 * (lik S.cs).2))))) 0 0 := by
  refine zMet.of (cc := cX4_found) hl (plainFor_of_name (by decide +kernel)) (Nat.le_of_ble_eq_true rfl) ?_
  intro X hXl hXΓ hXp C hnm hnL
  have C : zC X cX4_found RX4 (some .int) 4 89 [] := C
  have hnL : X.2.1.2.2.2.2 = 8 := hnL
  subst hXl hXΓ
  show Z X h 0 0 [(0, .ref A.m)] 0 []
  obtain ⟨gm_1, gv_1, gpa_1, gtx_1, gma_1, gna_1, gua_1, gla_1, gle_1, gqa_1, gd_1⟩ := id hM
  obtain ⟨hsl1, hsl2, hsl3⟩ := id hsl
  refine z_iconst (pc := 0) C dX4_found_0 ?_
  refine z_istore_n (pc := 1) (L' := [(1, .int (iI 0)), (0, .ref A.m)]) C dX4_found_1 rfl (by rw [hnL]; decide) rfl ?_
  refine z_aload_n (pc := 2) (j := 1) C dX4_found_2 rfl rfl ?_
  refine z_iconst (pc := 3) C dX4_found_3 ?_
  refine z_iconst (pc := 4) C dX4_found_4 ?_
  refine z_callV (pc := 5) (n := 2) (kc' := 0) (ks' := 0) C (m_score C.t ⟨gm_1, gv_1, gpa_1, gtx_1, gma_1, gna_1, gua_1, gla_1, gle_1, gqa_1, gd_1⟩ hS hsl hsr (p := 0) (b := 0) (by omega) (by omega)) (lw_V q2214 q2216 qs36 q74 q2217) (by decide +kernel) ⟨by decide, by decide⟩ gm_1 rfl rfl rfl (Nat.le_of_ble_eq_true rfl) dX4_found_5 (by omega) (by omega) (zpk (st' := [.int (iI (scl 0 0 S.cs))]) rfl ?_) zrx
  have hscr8 := scl_r 0 0 S.cs
  refine z_istore_n (pc := 8) (L' := [(2, .int (iI (scl 0 0 S.cs))), (1, .int (iI 0)), (0, .ref A.m)]) C dX4_found_8 rfl (by rw [hnL]; decide) rfl ?_
  refine z_iconst (pc := 9) C dX4_found_9 ?_
  refine z_istore_n (pc := 10) (L' := [(3, .int (iI 0)), (2, .int (iI (scl 0 0 S.cs))), (1, .int (iI 0)), (0, .ref A.m)]) C dX4_found_10 rfl (by rw [hnL]; decide) rfl ?_
  have loop11 : ∀ (n11 : Nat) (md : Int) (bt : Int) (bm : Int), (0 ≤ md ∧ md ≤ 2) → ((if md = 0 then lgi S.cs 1 3 13 0 (lgi S.cs 0 0 13 0 (bt, bm)) else if md = 1 then lgi S.cs 1 3 13 0 (bt, bm) else (bt, bm)) = lik S.cs) → ((-20 ≤ bt ∧ bt ≤ 20) ∧ (bm = 0 ∨ bm = 1)) → ((2 - md).toNat) = n11 → Z X h 0 0 [(3, .int (iI md)), (2, .int (iI (scl bt bm S.cs))), (1, .int (iI (bt + 100 * bm))), (0, .ref A.m)] 11 [] := by
    intro n11
    induction n11 using Nat.strongRecOn with
    | ind n11 ih11 =>
    intro md bt bm hmd hE hbr hn11
    refine z_iload_n (pc := 11) (j := 0) C dX4_found_11 rfl rfl ?_
    refine z_iconst (pc := 12) C dX4_found_12 ?_
    refine z_icmp_ge (pc := 13) (tgt := 105) C dX4_found_13 (by decide) (by omega) (by decide) (fun c13 => ?_) (fun c13 => ?_)
    · refine z_iload_n (pc := 105) (j := 2) C dX4_found_105 rfl rfl ?_
      exact z_ireturn (pc := 106) C (by rw [hXp]; exact zpure_i (by rw [if_neg (by omega), if_neg (by omega)] at hE; rw [← hE]) rfl) dX4_found_106
    · refine z_iconst (pc := 16) C dX4_found_16 ?_
      refine z_istore (pc := 17) (L' := [(4, .int (iI 0)), (3, .int (iI md)), (2, .int (iI (scl bt bm S.cs))), (1, .int (iI (bt + 100 * bm))), (0, .ref A.m)]) C dX4_found_17 (by rw [hnL]; decide) rfl ?_
      have loop19 : ∀ (n19 : Nat) (k : Int) (ct : Int) (cm : Int), (0 ≤ k ∧ k ≤ 13) → ((if md = 0 then lgi S.cs 1 3 13 0 (lgi S.cs 0 0 (13 - k.toNat) k (ct, cm)) else lgi S.cs 1 3 (13 - k.toNat) k (ct, cm)) = lik S.cs) → ((-20 ≤ ct ∧ ct ≤ 20) ∧ (cm = 0 ∨ cm = 1)) → ((13 - k).toNat) = n19 → Z X h 0 0 [(4, .int (iI k)), (3, .int (iI md)), (2, .int (iI (scl ct cm S.cs))), (1, .int (iI (ct + 100 * cm))), (0, .ref A.m)] 19 [] := by
        intro n19
        induction n19 using Nat.strongRecOn with
        | ind n19 ih19 =>
        intro k ct cm hk hE2 hcr hn19
        refine z_iload (pc := 19) (j := 0) C dX4_found_19 rfl ?_
        refine z_bipush (pc := 21) C dX4_found_21 (by decide) ?_
        refine z_icmp_gt (pc := 23) (tgt := 99) C dX4_found_23 (by decide) (by omega) (by decide) (fun c23 => ?_) (fun c23 => ?_)
        · refine z_iinc (pc := 99) (k := 1) (L' := [(3, .int (iI (md + 1))), (4, .int (iI k)), (2, .int (iI (scl ct cm S.cs))), (1, .int (iI (ct + 100 * cm))), (0, .ref A.m)]) C dX4_found_99 rfl (by rw [hnL]; decide) rfl ?_
          refine z_goto (pc := 102) (tgt := 11) C dX4_found_102 (by decide) ?_
          refine Z.weak (L' := [(3, .int (iI (md + 1))), (2, .int (iI (scl ct cm S.cs))), (1, .int (iI (ct + 100 * cm))), (0, .ref A.m)]) (kc' := 0) (ks' := 0) [0, 2, 3, 4] rfl (by omega) (by omega) ?_
          exact ih11 _ (by omega) (md + 1) ct cm (by omega) (fnd_md hmd (by omega) hE2) hcr rfl
        · refine z_iload (pc := 26) (j := 0) C dX4_found_26 rfl ?_
          refine z_iconst (pc := 28) C dX4_found_28 ?_
          refine z_iremI (pc := 29) C dX4_found_29 (by omega) (by decide) ?_
          rw [show ((k.tmod 2) : Int) = k % 2 from Int.tmod_eq_emod_of_nonneg (by omega)]
          show Z X h 0 0 [(4, .int (iI k)), (3, .int (iI md)), (2, .int (iI (scl ct cm S.cs))), (1, .int (iI (ct + 100 * cm))), (0, .ref A.m)] 30 [.int (iI (k % 2))]
          refine z_iconst (pc := 30) C dX4_found_30 ?_
          refine z_icmp_ne (pc := 31) (tgt := 43) C dX4_found_31 (by decide) (by omega) (by decide) (fun c31 => ?_) (fun c31 => ?_)
          · refine z_iload (pc := 43) (j := 0) C dX4_found_43 rfl ?_
            refine z_iconst (pc := 45) C dX4_found_45 ?_
            refine z_idivI (pc := 46) C dX4_found_46 (by omega) (by decide) ?_
            refine z_ineg (pc := 47) C dX4_found_47 ?_
            rw [show (-(k.tdiv 2) : Int) = sgk k by unfold sgk; rw [Int.tdiv_eq_ediv_of_nonneg (by omega)]; split <;> omega]
            show Z X h 0 0 [(4, .int (iI k)), (3, .int (iI md)), (2, .int (iI (scl ct cm S.cs))), (1, .int (iI (ct + 100 * cm))), (0, .ref A.m)] 48 [.int (iI (sgk k))]
            refine z_istore (pc := 48) (L' := [(5, .int (iI (sgk k))), (4, .int (iI k)), (3, .int (iI md)), (2, .int (iI (scl ct cm S.cs))), (1, .int (iI (ct + 100 * cm))), (0, .ref A.m)]) C dX4_found_48 (by rw [hnL]; decide) rfl ?_
            have hskr : -7 ≤ sgk k ∧ sgk k ≤ 7 := by unfold sgk; split <;> omega
            refine z_iload (pc := 50) (j := 0) C dX4_found_50 rfl ?_
            refine z_iconst (pc := 52) C dX4_found_52 ?_
            refine z_iload_n (pc := 53) (j := 2) C dX4_found_53 rfl rfl ?_
            refine z_imul (pc := 54) C dX4_found_54 ?_
            refine z_iadd (pc := 55) C dX4_found_55 ?_
            refine z_istore (pc := 56) (L' := [(6, .int (iI ((sgk k) + (3 * md)))), (5, .int (iI (sgk k))), (4, .int (iI k)), (3, .int (iI md)), (2, .int (iI (scl ct cm S.cs))), (1, .int (iI (ct + 100 * cm))), (0, .ref A.m)]) C dX4_found_56 (by rw [hnL]; decide) rfl ?_
            refine z_aload_n (pc := 58) (j := 6) C dX4_found_58 rfl rfl ?_
            refine z_iload (pc := 59) (j := 0) C dX4_found_59 rfl ?_
            refine z_iload_n (pc := 61) (j := 3) C dX4_found_61 rfl rfl ?_
            refine z_iconst (pc := 62) C dX4_found_62 ?_
            refine z_icmp_ne (pc := 63) (tgt := 70) C dX4_found_63 (by decide) (by omega) (by decide) (fun c63 => ?_) (fun c63 => ?_)
            · refine z_iconst (pc := 70) C dX4_found_70 ?_
              rw [show ((0) : Int) = md from by omega]
              show Z X h 0 0 [(6, .int (iI ((sgk k) + (3 * md)))), (5, .int (iI (sgk k))), (4, .int (iI k)), (3, .int (iI md)), (2, .int (iI (scl ct cm S.cs))), (1, .int (iI (ct + 100 * cm))), (0, .ref A.m)] 71 [.int (iI md), .int (iI ((sgk k) + (3 * md))), .ref A.m]
              refine z_callV (pc := 71) (n := 2) (kc' := 0) (ks' := 0) C (m_score C.t ⟨gm_1, gv_1, gpa_1, gtx_1, gma_1, gna_1, gua_1, gla_1, gle_1, gqa_1, gd_1⟩ hS hsl hsr (p := (sgk k) + (3 * md)) (b := md) (by omega) (by omega)) (lw_V q2214 q2216 qs36 q74 q2217) (by decide +kernel) ⟨by decide, by decide⟩ gm_1 rfl rfl rfl (Nat.le_of_ble_eq_true rfl) dX4_found_71 (by omega) (by omega) (zpk (st' := [.int (iI (scl ((sgk k) + (3 * md)) md S.cs))]) rfl ?_) zrx
              have hscr74 := scl_r ((sgk k) + (3 * md)) md S.cs
              refine z_istore (pc := 74) (L' := [(7, .int (iI (scl ((sgk k) + (3 * md)) md S.cs))), (6, .int (iI ((sgk k) + (3 * md)))), (5, .int (iI (sgk k))), (4, .int (iI k)), (3, .int (iI md)), (2, .int (iI (scl ct cm S.cs))), (1, .int (iI (ct + 100 * cm))), (0, .ref A.m)]) C dX4_found_74 (by rw [hnL]; decide) rfl ?_
              refine z_iload (pc := 76) (j := 0) C dX4_found_76 rfl ?_
              refine z_iload_n (pc := 78) (j := 5) C dX4_found_78 rfl rfl ?_
              have hsc79 := scl_r ct cm S.cs
              refine z_icmp_le (pc := 79) (tgt := 93) C dX4_found_79 (by decide) (by omega) (by omega) (fun c79 => ?_) (fun c79 => ?_)
              · refine z_iinc (pc := 93) (k := 3) (L' := [(4, .int (iI (k + 1))), (7, .int (iI (scl ((sgk k) + (3 * md)) md S.cs))), (6, .int (iI ((sgk k) + (3 * md)))), (5, .int (iI (sgk k))), (3, .int (iI md)), (2, .int (iI (scl ct cm S.cs))), (1, .int (iI (ct + 100 * cm))), (0, .ref A.m)]) C dX4_found_93 rfl (by rw [hnL]; decide) rfl ?_
                refine z_goto (pc := 96) (tgt := 19) C dX4_found_96 (by decide) ?_
                refine Z.weak (L' := [(4, .int (iI (k + 1))), (3, .int (iI md)), (2, .int (iI (scl ct cm S.cs))), (1, .int (iI (ct + 100 * cm))), (0, .ref A.m)]) (kc' := 0) (ks' := 0) [0, 4, 5, 6, 7] rfl (by omega) (by omega) ?_
                exact ih19 _ (by omega) (k + 1) ct cm (by omega) (fnd_st hk (by omega) (by omega) hE2 (Or.inr ⟨rfl, by omega⟩)) (by omega) rfl
              · refine z_iload (pc := 82) (j := 0) C dX4_found_82 rfl ?_
                refine z_istore_n (pc := 84) (L' := [(2, .int (iI (scl ((sgk k) + (3 * md)) md S.cs))), (7, .int (iI (scl ((sgk k) + (3 * md)) md S.cs))), (6, .int (iI ((sgk k) + (3 * md)))), (5, .int (iI (sgk k))), (4, .int (iI k)), (3, .int (iI md)), (1, .int (iI (ct + 100 * cm))), (0, .ref A.m)]) C dX4_found_84 rfl (by rw [hnL]; decide) rfl ?_
                refine z_iload (pc := 85) (j := 2) C dX4_found_85 rfl ?_
                refine z_bipush (pc := 87) C dX4_found_87 (by decide) ?_
                refine z_iload_n (pc := 89) (j := 5) C dX4_found_89 rfl rfl ?_
                refine z_imul (pc := 90) C dX4_found_90 ?_
                refine z_iadd (pc := 91) C dX4_found_91 ?_
                refine z_istore_n (pc := 92) (L' := [(1, .int (iI (((sgk k) + (3 * md)) + (100 * md)))), (2, .int (iI (scl ((sgk k) + (3 * md)) md S.cs))), (7, .int (iI (scl ((sgk k) + (3 * md)) md S.cs))), (6, .int (iI ((sgk k) + (3 * md)))), (5, .int (iI (sgk k))), (4, .int (iI k)), (3, .int (iI md)), (0, .ref A.m)]) C dX4_found_92 rfl (by rw [hnL]; decide) rfl ?_
                rw [show (((sgk k) + (3 * md)) + (100 * md) : Int) = (sgk k + 3 * md) + 100 * md by omega]
                show Z X h 0 0 [(1, .int (iI ((sgk k + 3 * md) + 100 * md))), (2, .int (iI (scl ((sgk k) + (3 * md)) md S.cs))), (7, .int (iI (scl ((sgk k) + (3 * md)) md S.cs))), (6, .int (iI ((sgk k) + (3 * md)))), (5, .int (iI (sgk k))), (4, .int (iI k)), (3, .int (iI md)), (0, .ref A.m)] 93 []
                refine z_iinc (pc := 93) (k := 5) (L' := [(4, .int (iI (k + 1))), (1, .int (iI ((sgk k + 3 * md) + 100 * md))), (2, .int (iI (scl ((sgk k) + (3 * md)) md S.cs))), (7, .int (iI (scl ((sgk k) + (3 * md)) md S.cs))), (6, .int (iI ((sgk k) + (3 * md)))), (5, .int (iI (sgk k))), (3, .int (iI md)), (0, .ref A.m)]) C dX4_found_93 rfl (by rw [hnL]; decide) rfl ?_
                refine z_goto (pc := 96) (tgt := 19) C dX4_found_96 (by decide) ?_
                refine Z.weak (L' := [(4, .int (iI (k + 1))), (3, .int (iI md)), (2, .int (iI (scl ((sgk k) + (3 * md)) md S.cs))), (1, .int (iI ((sgk k + 3 * md) + 100 * md))), (0, .ref A.m)]) (kc' := 0) (ks' := 0) [0, 6, 2, 1, 7] rfl (by omega) (by omega) ?_
                exact ih19 _ (by omega) (k + 1) (sgk k + 3 * md) md (by omega) (fnd_st hk (by omega) (by omega) hE2 (Or.inl ⟨rfl, by omega⟩)) (by omega) rfl
            · refine z_iconst (pc := 66) C dX4_found_66 ?_
              refine z_goto (pc := 67) (tgt := 71) C dX4_found_67 (by decide) ?_
              rw [show ((1) : Int) = md from by omega]
              show Z X h 0 0 [(6, .int (iI ((sgk k) + (3 * md)))), (5, .int (iI (sgk k))), (4, .int (iI k)), (3, .int (iI md)), (2, .int (iI (scl ct cm S.cs))), (1, .int (iI (ct + 100 * cm))), (0, .ref A.m)] 71 [.int (iI md), .int (iI ((sgk k) + (3 * md))), .ref A.m]
              refine z_callV (pc := 71) (n := 2) (kc' := 0) (ks' := 0) C (m_score C.t ⟨gm_1, gv_1, gpa_1, gtx_1, gma_1, gna_1, gua_1, gla_1, gle_1, gqa_1, gd_1⟩ hS hsl hsr (p := (sgk k) + (3 * md)) (b := md) (by omega) (by omega)) (lw_V q2214 q2216 qs36 q74 q2217) (by decide +kernel) ⟨by decide, by decide⟩ gm_1 rfl rfl rfl (Nat.le_of_ble_eq_true rfl) dX4_found_71 (by omega) (by omega) (zpk (st' := [.int (iI (scl ((sgk k) + (3 * md)) md S.cs))]) rfl ?_) zrx
              have hscr74 := scl_r ((sgk k) + (3 * md)) md S.cs
              refine z_istore (pc := 74) (L' := [(7, .int (iI (scl ((sgk k) + (3 * md)) md S.cs))), (6, .int (iI ((sgk k) + (3 * md)))), (5, .int (iI (sgk k))), (4, .int (iI k)), (3, .int (iI md)), (2, .int (iI (scl ct cm S.cs))), (1, .int (iI (ct + 100 * cm))), (0, .ref A.m)]) C dX4_found_74 (by rw [hnL]; decide) rfl ?_
              refine z_iload (pc := 76) (j := 0) C dX4_found_76 rfl ?_
              refine z_iload_n (pc := 78) (j := 5) C dX4_found_78 rfl rfl ?_
              have hsc79 := scl_r ct cm S.cs
              refine z_icmp_le (pc := 79) (tgt := 93) C dX4_found_79 (by decide) (by omega) (by omega) (fun c79 => ?_) (fun c79 => ?_)
              · refine z_iinc (pc := 93) (k := 3) (L' := [(4, .int (iI (k + 1))), (7, .int (iI (scl ((sgk k) + (3 * md)) md S.cs))), (6, .int (iI ((sgk k) + (3 * md)))), (5, .int (iI (sgk k))), (3, .int (iI md)), (2, .int (iI (scl ct cm S.cs))), (1, .int (iI (ct + 100 * cm))), (0, .ref A.m)]) C dX4_found_93 rfl (by rw [hnL]; decide) rfl ?_
                refine z_goto (pc := 96) (tgt := 19) C dX4_found_96 (by decide) ?_
                refine Z.weak (L' := [(4, .int (iI (k + 1))), (3, .int (iI md)), (2, .int (iI (scl ct cm S.cs))), (1, .int (iI (ct + 100 * cm))), (0, .ref A.m)]) (kc' := 0) (ks' := 0) [0, 4, 5, 6, 7] rfl (by omega) (by omega) ?_
                exact ih19 _ (by omega) (k + 1) ct cm (by omega) (fnd_st hk (by omega) (by omega) hE2 (Or.inr ⟨rfl, by omega⟩)) (by omega) rfl
              · refine z_iload (pc := 82) (j := 0) C dX4_found_82 rfl ?_
                refine z_istore_n (pc := 84) (L' := [(2, .int (iI (scl ((sgk k) + (3 * md)) md S.cs))), (7, .int (iI (scl ((sgk k) + (3 * md)) md S.cs))), (6, .int (iI ((sgk k) + (3 * md)))), (5, .int (iI (sgk k))), (4, .int (iI k)), (3, .int (iI md)), (1, .int (iI (ct + 100 * cm))), (0, .ref A.m)]) C dX4_found_84 rfl (by rw [hnL]; decide) rfl ?_
                refine z_iload (pc := 85) (j := 2) C dX4_found_85 rfl ?_
                refine z_bipush (pc := 87) C dX4_found_87 (by decide) ?_
                refine z_iload_n (pc := 89) (j := 5) C dX4_found_89 rfl rfl ?_
                refine z_imul (pc := 90) C dX4_found_90 ?_
                refine z_iadd (pc := 91) C dX4_found_91 ?_
                refine z_istore_n (pc := 92) (L' := [(1, .int (iI (((sgk k) + (3 * md)) + (100 * md)))), (2, .int (iI (scl ((sgk k) + (3 * md)) md S.cs))), (7, .int (iI (scl ((sgk k) + (3 * md)) md S.cs))), (6, .int (iI ((sgk k) + (3 * md)))), (5, .int (iI (sgk k))), (4, .int (iI k)), (3, .int (iI md)), (0, .ref A.m)]) C dX4_found_92 rfl (by rw [hnL]; decide) rfl ?_
                rw [show (((sgk k) + (3 * md)) + (100 * md) : Int) = (sgk k + 3 * md) + 100 * md by omega]
                show Z X h 0 0 [(1, .int (iI ((sgk k + 3 * md) + 100 * md))), (2, .int (iI (scl ((sgk k) + (3 * md)) md S.cs))), (7, .int (iI (scl ((sgk k) + (3 * md)) md S.cs))), (6, .int (iI ((sgk k) + (3 * md)))), (5, .int (iI (sgk k))), (4, .int (iI k)), (3, .int (iI md)), (0, .ref A.m)] 93 []
                refine z_iinc (pc := 93) (k := 5) (L' := [(4, .int (iI (k + 1))), (1, .int (iI ((sgk k + 3 * md) + 100 * md))), (2, .int (iI (scl ((sgk k) + (3 * md)) md S.cs))), (7, .int (iI (scl ((sgk k) + (3 * md)) md S.cs))), (6, .int (iI ((sgk k) + (3 * md)))), (5, .int (iI (sgk k))), (3, .int (iI md)), (0, .ref A.m)]) C dX4_found_93 rfl (by rw [hnL]; decide) rfl ?_
                refine z_goto (pc := 96) (tgt := 19) C dX4_found_96 (by decide) ?_
                refine Z.weak (L' := [(4, .int (iI (k + 1))), (3, .int (iI md)), (2, .int (iI (scl ((sgk k) + (3 * md)) md S.cs))), (1, .int (iI ((sgk k + 3 * md) + 100 * md))), (0, .ref A.m)]) (kc' := 0) (ks' := 0) [0, 6, 2, 1, 7] rfl (by omega) (by omega) ?_
                exact ih19 _ (by omega) (k + 1) (sgk k + 3 * md) md (by omega) (fnd_st hk (by omega) (by omega) hE2 (Or.inl ⟨rfl, by omega⟩)) (by omega) rfl
          · refine z_iload (pc := 34) (j := 0) C dX4_found_34 rfl ?_
            refine z_iconst (pc := 36) C dX4_found_36 ?_
            refine z_idivI (pc := 37) C dX4_found_37 (by omega) (by decide) ?_
            refine z_iconst (pc := 38) C dX4_found_38 ?_
            refine z_iadd (pc := 39) C dX4_found_39 ?_
            refine z_goto (pc := 40) (tgt := 48) C dX4_found_40 (by decide) ?_
            rw [show ((k.tdiv 2) + 1 : Int) = sgk k by unfold sgk; rw [Int.tdiv_eq_ediv_of_nonneg (by omega)]; split <;> omega]
            show Z X h 0 0 [(4, .int (iI k)), (3, .int (iI md)), (2, .int (iI (scl ct cm S.cs))), (1, .int (iI (ct + 100 * cm))), (0, .ref A.m)] 48 [.int (iI (sgk k))]
            refine z_istore (pc := 48) (L' := [(5, .int (iI (sgk k))), (4, .int (iI k)), (3, .int (iI md)), (2, .int (iI (scl ct cm S.cs))), (1, .int (iI (ct + 100 * cm))), (0, .ref A.m)]) C dX4_found_48 (by rw [hnL]; decide) rfl ?_
            have hskr : -7 ≤ sgk k ∧ sgk k ≤ 7 := by unfold sgk; split <;> omega
            refine z_iload (pc := 50) (j := 0) C dX4_found_50 rfl ?_
            refine z_iconst (pc := 52) C dX4_found_52 ?_
            refine z_iload_n (pc := 53) (j := 2) C dX4_found_53 rfl rfl ?_
            refine z_imul (pc := 54) C dX4_found_54 ?_
            refine z_iadd (pc := 55) C dX4_found_55 ?_
            refine z_istore (pc := 56) (L' := [(6, .int (iI ((sgk k) + (3 * md)))), (5, .int (iI (sgk k))), (4, .int (iI k)), (3, .int (iI md)), (2, .int (iI (scl ct cm S.cs))), (1, .int (iI (ct + 100 * cm))), (0, .ref A.m)]) C dX4_found_56 (by rw [hnL]; decide) rfl ?_
            refine z_aload_n (pc := 58) (j := 6) C dX4_found_58 rfl rfl ?_
            refine z_iload (pc := 59) (j := 0) C dX4_found_59 rfl ?_
            refine z_iload_n (pc := 61) (j := 3) C dX4_found_61 rfl rfl ?_
            refine z_iconst (pc := 62) C dX4_found_62 ?_
            refine z_icmp_ne (pc := 63) (tgt := 70) C dX4_found_63 (by decide) (by omega) (by decide) (fun c63 => ?_) (fun c63 => ?_)
            · refine z_iconst (pc := 70) C dX4_found_70 ?_
              rw [show ((0) : Int) = md from by omega]
              show Z X h 0 0 [(6, .int (iI ((sgk k) + (3 * md)))), (5, .int (iI (sgk k))), (4, .int (iI k)), (3, .int (iI md)), (2, .int (iI (scl ct cm S.cs))), (1, .int (iI (ct + 100 * cm))), (0, .ref A.m)] 71 [.int (iI md), .int (iI ((sgk k) + (3 * md))), .ref A.m]
              refine z_callV (pc := 71) (n := 2) (kc' := 0) (ks' := 0) C (m_score C.t ⟨gm_1, gv_1, gpa_1, gtx_1, gma_1, gna_1, gua_1, gla_1, gle_1, gqa_1, gd_1⟩ hS hsl hsr (p := (sgk k) + (3 * md)) (b := md) (by omega) (by omega)) (lw_V q2214 q2216 qs36 q74 q2217) (by decide +kernel) ⟨by decide, by decide⟩ gm_1 rfl rfl rfl (Nat.le_of_ble_eq_true rfl) dX4_found_71 (by omega) (by omega) (zpk (st' := [.int (iI (scl ((sgk k) + (3 * md)) md S.cs))]) rfl ?_) zrx
              have hscr74 := scl_r ((sgk k) + (3 * md)) md S.cs
              refine z_istore (pc := 74) (L' := [(7, .int (iI (scl ((sgk k) + (3 * md)) md S.cs))), (6, .int (iI ((sgk k) + (3 * md)))), (5, .int (iI (sgk k))), (4, .int (iI k)), (3, .int (iI md)), (2, .int (iI (scl ct cm S.cs))), (1, .int (iI (ct + 100 * cm))), (0, .ref A.m)]) C dX4_found_74 (by rw [hnL]; decide) rfl ?_
              refine z_iload (pc := 76) (j := 0) C dX4_found_76 rfl ?_
              refine z_iload_n (pc := 78) (j := 5) C dX4_found_78 rfl rfl ?_
              have hsc79 := scl_r ct cm S.cs
              refine z_icmp_le (pc := 79) (tgt := 93) C dX4_found_79 (by decide) (by omega) (by omega) (fun c79 => ?_) (fun c79 => ?_)
              · refine z_iinc (pc := 93) (k := 3) (L' := [(4, .int (iI (k + 1))), (7, .int (iI (scl ((sgk k) + (3 * md)) md S.cs))), (6, .int (iI ((sgk k) + (3 * md)))), (5, .int (iI (sgk k))), (3, .int (iI md)), (2, .int (iI (scl ct cm S.cs))), (1, .int (iI (ct + 100 * cm))), (0, .ref A.m)]) C dX4_found_93 rfl (by rw [hnL]; decide) rfl ?_
                refine z_goto (pc := 96) (tgt := 19) C dX4_found_96 (by decide) ?_
                refine Z.weak (L' := [(4, .int (iI (k + 1))), (3, .int (iI md)), (2, .int (iI (scl ct cm S.cs))), (1, .int (iI (ct + 100 * cm))), (0, .ref A.m)]) (kc' := 0) (ks' := 0) [0, 4, 5, 6, 7] rfl (by omega) (by omega) ?_
                exact ih19 _ (by omega) (k + 1) ct cm (by omega) (fnd_st hk (by omega) (by omega) hE2 (Or.inr ⟨rfl, by omega⟩)) (by omega) rfl
              · refine z_iload (pc := 82) (j := 0) C dX4_found_82 rfl ?_
                refine z_istore_n (pc := 84) (L' := [(2, .int (iI (scl ((sgk k) + (3 * md)) md S.cs))), (7, .int (iI (scl ((sgk k) + (3 * md)) md S.cs))), (6, .int (iI ((sgk k) + (3 * md)))), (5, .int (iI (sgk k))), (4, .int (iI k)), (3, .int (iI md)), (1, .int (iI (ct + 100 * cm))), (0, .ref A.m)]) C dX4_found_84 rfl (by rw [hnL]; decide) rfl ?_
                refine z_iload (pc := 85) (j := 2) C dX4_found_85 rfl ?_
                refine z_bipush (pc := 87) C dX4_found_87 (by decide) ?_
                refine z_iload_n (pc := 89) (j := 5) C dX4_found_89 rfl rfl ?_
                refine z_imul (pc := 90) C dX4_found_90 ?_
                refine z_iadd (pc := 91) C dX4_found_91 ?_
                refine z_istore_n (pc := 92) (L' := [(1, .int (iI (((sgk k) + (3 * md)) + (100 * md)))), (2, .int (iI (scl ((sgk k) + (3 * md)) md S.cs))), (7, .int (iI (scl ((sgk k) + (3 * md)) md S.cs))), (6, .int (iI ((sgk k) + (3 * md)))), (5, .int (iI (sgk k))), (4, .int (iI k)), (3, .int (iI md)), (0, .ref A.m)]) C dX4_found_92 rfl (by rw [hnL]; decide) rfl ?_
                rw [show (((sgk k) + (3 * md)) + (100 * md) : Int) = (sgk k + 3 * md) + 100 * md by omega]
                show Z X h 0 0 [(1, .int (iI ((sgk k + 3 * md) + 100 * md))), (2, .int (iI (scl ((sgk k) + (3 * md)) md S.cs))), (7, .int (iI (scl ((sgk k) + (3 * md)) md S.cs))), (6, .int (iI ((sgk k) + (3 * md)))), (5, .int (iI (sgk k))), (4, .int (iI k)), (3, .int (iI md)), (0, .ref A.m)] 93 []
                refine z_iinc (pc := 93) (k := 5) (L' := [(4, .int (iI (k + 1))), (1, .int (iI ((sgk k + 3 * md) + 100 * md))), (2, .int (iI (scl ((sgk k) + (3 * md)) md S.cs))), (7, .int (iI (scl ((sgk k) + (3 * md)) md S.cs))), (6, .int (iI ((sgk k) + (3 * md)))), (5, .int (iI (sgk k))), (3, .int (iI md)), (0, .ref A.m)]) C dX4_found_93 rfl (by rw [hnL]; decide) rfl ?_
                refine z_goto (pc := 96) (tgt := 19) C dX4_found_96 (by decide) ?_
                refine Z.weak (L' := [(4, .int (iI (k + 1))), (3, .int (iI md)), (2, .int (iI (scl ((sgk k) + (3 * md)) md S.cs))), (1, .int (iI ((sgk k + 3 * md) + 100 * md))), (0, .ref A.m)]) (kc' := 0) (ks' := 0) [0, 6, 2, 1, 7] rfl (by omega) (by omega) ?_
                exact ih19 _ (by omega) (k + 1) (sgk k + 3 * md) md (by omega) (fnd_st hk (by omega) (by omega) hE2 (Or.inl ⟨rfl, by omega⟩)) (by omega) rfl
            · refine z_iconst (pc := 66) C dX4_found_66 ?_
              refine z_goto (pc := 67) (tgt := 71) C dX4_found_67 (by decide) ?_
              rw [show ((1) : Int) = md from by omega]
              show Z X h 0 0 [(6, .int (iI ((sgk k) + (3 * md)))), (5, .int (iI (sgk k))), (4, .int (iI k)), (3, .int (iI md)), (2, .int (iI (scl ct cm S.cs))), (1, .int (iI (ct + 100 * cm))), (0, .ref A.m)] 71 [.int (iI md), .int (iI ((sgk k) + (3 * md))), .ref A.m]
              refine z_callV (pc := 71) (n := 2) (kc' := 0) (ks' := 0) C (m_score C.t ⟨gm_1, gv_1, gpa_1, gtx_1, gma_1, gna_1, gua_1, gla_1, gle_1, gqa_1, gd_1⟩ hS hsl hsr (p := (sgk k) + (3 * md)) (b := md) (by omega) (by omega)) (lw_V q2214 q2216 qs36 q74 q2217) (by decide +kernel) ⟨by decide, by decide⟩ gm_1 rfl rfl rfl (Nat.le_of_ble_eq_true rfl) dX4_found_71 (by omega) (by omega) (zpk (st' := [.int (iI (scl ((sgk k) + (3 * md)) md S.cs))]) rfl ?_) zrx
              have hscr74 := scl_r ((sgk k) + (3 * md)) md S.cs
              refine z_istore (pc := 74) (L' := [(7, .int (iI (scl ((sgk k) + (3 * md)) md S.cs))), (6, .int (iI ((sgk k) + (3 * md)))), (5, .int (iI (sgk k))), (4, .int (iI k)), (3, .int (iI md)), (2, .int (iI (scl ct cm S.cs))), (1, .int (iI (ct + 100 * cm))), (0, .ref A.m)]) C dX4_found_74 (by rw [hnL]; decide) rfl ?_
              refine z_iload (pc := 76) (j := 0) C dX4_found_76 rfl ?_
              refine z_iload_n (pc := 78) (j := 5) C dX4_found_78 rfl rfl ?_
              have hsc79 := scl_r ct cm S.cs
              refine z_icmp_le (pc := 79) (tgt := 93) C dX4_found_79 (by decide) (by omega) (by omega) (fun c79 => ?_) (fun c79 => ?_)
              · refine z_iinc (pc := 93) (k := 3) (L' := [(4, .int (iI (k + 1))), (7, .int (iI (scl ((sgk k) + (3 * md)) md S.cs))), (6, .int (iI ((sgk k) + (3 * md)))), (5, .int (iI (sgk k))), (3, .int (iI md)), (2, .int (iI (scl ct cm S.cs))), (1, .int (iI (ct + 100 * cm))), (0, .ref A.m)]) C dX4_found_93 rfl (by rw [hnL]; decide) rfl ?_
                refine z_goto (pc := 96) (tgt := 19) C dX4_found_96 (by decide) ?_
                refine Z.weak (L' := [(4, .int (iI (k + 1))), (3, .int (iI md)), (2, .int (iI (scl ct cm S.cs))), (1, .int (iI (ct + 100 * cm))), (0, .ref A.m)]) (kc' := 0) (ks' := 0) [0, 4, 5, 6, 7] rfl (by omega) (by omega) ?_
                exact ih19 _ (by omega) (k + 1) ct cm (by omega) (fnd_st hk (by omega) (by omega) hE2 (Or.inr ⟨rfl, by omega⟩)) (by omega) rfl
              · refine z_iload (pc := 82) (j := 0) C dX4_found_82 rfl ?_
                refine z_istore_n (pc := 84) (L' := [(2, .int (iI (scl ((sgk k) + (3 * md)) md S.cs))), (7, .int (iI (scl ((sgk k) + (3 * md)) md S.cs))), (6, .int (iI ((sgk k) + (3 * md)))), (5, .int (iI (sgk k))), (4, .int (iI k)), (3, .int (iI md)), (1, .int (iI (ct + 100 * cm))), (0, .ref A.m)]) C dX4_found_84 rfl (by rw [hnL]; decide) rfl ?_
                refine z_iload (pc := 85) (j := 2) C dX4_found_85 rfl ?_
                refine z_bipush (pc := 87) C dX4_found_87 (by decide) ?_
                refine z_iload_n (pc := 89) (j := 5) C dX4_found_89 rfl rfl ?_
                refine z_imul (pc := 90) C dX4_found_90 ?_
                refine z_iadd (pc := 91) C dX4_found_91 ?_
                refine z_istore_n (pc := 92) (L' := [(1, .int (iI (((sgk k) + (3 * md)) + (100 * md)))), (2, .int (iI (scl ((sgk k) + (3 * md)) md S.cs))), (7, .int (iI (scl ((sgk k) + (3 * md)) md S.cs))), (6, .int (iI ((sgk k) + (3 * md)))), (5, .int (iI (sgk k))), (4, .int (iI k)), (3, .int (iI md)), (0, .ref A.m)]) C dX4_found_92 rfl (by rw [hnL]; decide) rfl ?_
                rw [show (((sgk k) + (3 * md)) + (100 * md) : Int) = (sgk k + 3 * md) + 100 * md by omega]
                show Z X h 0 0 [(1, .int (iI ((sgk k + 3 * md) + 100 * md))), (2, .int (iI (scl ((sgk k) + (3 * md)) md S.cs))), (7, .int (iI (scl ((sgk k) + (3 * md)) md S.cs))), (6, .int (iI ((sgk k) + (3 * md)))), (5, .int (iI (sgk k))), (4, .int (iI k)), (3, .int (iI md)), (0, .ref A.m)] 93 []
                refine z_iinc (pc := 93) (k := 5) (L' := [(4, .int (iI (k + 1))), (1, .int (iI ((sgk k + 3 * md) + 100 * md))), (2, .int (iI (scl ((sgk k) + (3 * md)) md S.cs))), (7, .int (iI (scl ((sgk k) + (3 * md)) md S.cs))), (6, .int (iI ((sgk k) + (3 * md)))), (5, .int (iI (sgk k))), (3, .int (iI md)), (0, .ref A.m)]) C dX4_found_93 rfl (by rw [hnL]; decide) rfl ?_
                refine z_goto (pc := 96) (tgt := 19) C dX4_found_96 (by decide) ?_
                refine Z.weak (L' := [(4, .int (iI (k + 1))), (3, .int (iI md)), (2, .int (iI (scl ((sgk k) + (3 * md)) md S.cs))), (1, .int (iI ((sgk k + 3 * md) + 100 * md))), (0, .ref A.m)]) (kc' := 0) (ks' := 0) [0, 6, 2, 1, 7] rfl (by omega) (by omega) ?_
                exact ih19 _ (by omega) (k + 1) (sgk k + 3 * md) md (by omega) (fnd_st hk (by omega) (by omega) hE2 (Or.inl ⟨rfl, by omega⟩)) (by omega) rfl
      refine Z.weak (L' := [(4, .int (iI 0)), (3, .int (iI md)), (2, .int (iI (scl bt bm S.cs))), (1, .int (iI (bt + 100 * bm))), (0, .ref A.m)]) (kc' := 0) (ks' := 0) [0, 1, 2, 3, 4] rfl (by omega) (by omega) ?_
      exact loop19 _ 0 bt bm (by omega) (fnd_in hmd (by omega) hE) hbr rfl
  refine Z.weak (L' := [(3, .int (iI 0)), (2, .int (iI (scl 0 0 S.cs))), (1, .int (iI 0)), (0, .ref A.m)]) (kc' := 0) (ks' := 0) [0, 1, 2, 3] rfl (by omega) (by omega) ?_
  exact loop11 _ 0 0 0 (by omega) rfl (by omega) rfl
set_option maxHeartbeats 4000000 in
theorem md_findKey {l : Launch} (hl : l.stackTraces = false) {Γ : zCx} {h : zH} {A : zMA} {σ : zSt} {th : Int} (hW : mdW h A σ th)  : zMet l yX4_findKey (ws_ yX4_findKey cX4_findKey 1 (some .int)) ({ frames := 5, cells := 0, slots := 0, locals := 116 }) Γ h [.ref A.m] (zrt (fun w h' => w = some (.int (iI ((lik σ.sh.cs).1 + 100 * (lik σ.sh.cs).2))) ∧ mdW h' A σ 0 ∧ zkeep h h' [A.m, A.v, A.pa, A.tx, A.ma, A.na, A.ua, A.la])) 0 0 := by
  refine zMet.of (cc := cX4_findKey) hl (plainFor_of_name (by decide +kernel)) (Nat.le_of_ble_eq_true rfl) ?_
  intro X hXl hXΓ hXp C hnm hnL
  have C : zC X cX4_findKey RX4 (some .int) 5 116 [] := C
  have hnL : X.2.1.2.2.2.2 = 1 := hnL
  subst hXl hXΓ
  show Z X h 0 0 [(0, .ref A.m)] 0 []
  obtain ⟨ap, nt, rr, rq, rb, wh, nd, up, lo, V, P, T, M, N, U, W, hM, hS, hP, htq, hR, hsl, hslh⟩ := id hW
  obtain ⟨rsi, rff, rwd, rtl, rtx, rsh, rhi, rhl⟩ := id hR
  obtain ⟨rcl, rcr, rll, rlt, rkt, rkm, rks⟩ := id rsh
  obtain ⟨hsl1, hsl2, hsl3⟩ := id hsl
  have hTr := rtx
  have hTl := rtl
  obtain ⟨gm_1, gv_1, gpa_1, gtx_1, gma_1, gna_1, gua_1, gla_1, gle_1, gqa_1, gd_1⟩ := id hM
  refine z_aload_n (pc := 0) (j := 0) C dX4_findKey_0 rfl rfl ?_
  refine z_iconst (pc := 1) C dX4_findKey_1 ?_
  refine z_putfield (pc := 2) (fs' := [.ref A.v, .ref A.pa, .int (iI ((σ.hi.length : Nat) : Int)), .ref A.tx, .int (iI ((σ.tx.length : Nat) : Int)), .int (iI σ.si), .int (iI σ.fl), .int (iI σ.wd), .int (iI 0), .ref A.le, .ref A.qa, .int (iI ap), .int (iI nt), .int (iI rr), .int (iI rq), .int (iI rb), .int (iI wh), .ref A.ma, .ref A.na, .int (iI nd), .ref A.ua, .ref A.la, .int (iI up), .int (iI lo)]) C in_X4 tyX4 tyX4_ok nmX4 rfl 8 (by decide) q2090 (fun _ z => z) rfl rfl rfl (Nat.le_of_ble_eq_true rfl) gm_1 rfl dX4_findKey_2 ?_
  refine Z.nm (fun h2 eh2 => ?_)
  have kh2 : zkeep h h2 [A.m, A.v, A.pa, A.tx, A.ma, A.na, A.ua, A.la] := by rw [eh2]; exact zkeep.up zkeep.rf (Or.inl (by simp)) gm_1
  have fh2_0 : h2 A.m = some (true, .inr (3, [.ref A.v, .ref A.pa, .int (iI ((σ.hi.length : Nat) : Int)), .ref A.tx, .int (iI ((σ.tx.length : Nat) : Int)), .int (iI σ.si), .int (iI σ.fl), .int (iI σ.wd), .int (iI 0), .ref A.le, .ref A.qa, .int (iI ap), .int (iI nt), .int (iI rr), .int (iI rq), .int (iI rb), .int (iI wh), .ref A.ma, .ref A.na, .int (iI nd), .ref A.ua, .ref A.la, .int (iI up), .int (iI lo)])) := zse eh2
  have fh2_1 : h2 A.v = some (true, .inl (.int, 620, (mA V))) := zsn eh2 gv_1 (Ne.symm (zneA gm_1 gv_1))
  have fh2_2 : h2 A.pa = some (true, .inl (.int, 4960, (mA P))) := zsn eh2 gpa_1 (Ne.symm (zneA gm_1 gpa_1))
  have fh2_3 : h2 A.tx = some (true, .inl (.int, 200, (mA T))) := zsn eh2 gtx_1 (Ne.symm (zneA gm_1 gtx_1))
  have fh2_4 : h2 A.ma = some (true, .inl (.int, 620, (mA M))) := zsn eh2 gma_1 (Ne.symm (zneA gm_1 gma_1))
  have fh2_5 : h2 A.na = some (true, .inl (.int, 20, (mA N))) := zsn eh2 gna_1 (Ne.symm (zneA gm_1 gna_1))
  have fh2_6 : h2 A.ua = some (true, .inl (.int, 1200, (mA U))) := zsn eh2 gua_1 (Ne.symm (zneA gm_1 gua_1))
  have fh2_7 : h2 A.la = some (true, .inl (.int, 1200, (mA W))) := zsn eh2 gla_1 (Ne.symm (zneA gm_1 gla_1))
  refine z_aload_n (pc := 5) (j := 0) C dX4_findKey_5 rfl rfl ?_
  refine z_callV (pc := 6) (n := 0) (kc' := 0) (ks' := 0) C (m_found C.t ⟨fh2_0, fh2_1, fh2_2, fh2_3, fh2_4, fh2_5, fh2_6, fh2_7, (kh2.n gle_1 (List.not_mem_cons_of_ne_of_not_mem (Ne.symm (zneA gm_1 gle_1)) (List.not_mem_cons_of_ne_of_not_mem (zneT gle_1 gv_1 (by simp)) (List.not_mem_cons_of_ne_of_not_mem (zneT gle_1 gpa_1 (by simp)) (List.not_mem_cons_of_ne_of_not_mem (zneT gle_1 gtx_1 (by simp)) (List.not_mem_cons_of_ne_of_not_mem (zneT gle_1 gma_1 (by simp)) (List.not_mem_cons_of_ne_of_not_mem (zneT gle_1 gna_1 (by simp)) (List.not_mem_cons_of_ne_of_not_mem (zneT gle_1 gua_1 (by simp)) (List.not_mem_cons_of_ne_of_not_mem (zneT gle_1 gla_1 (by simp)) List.not_mem_nil))))))))), (kh2.n gqa_1 (List.not_mem_cons_of_ne_of_not_mem (Ne.symm (zneA gm_1 gqa_1)) (List.not_mem_cons_of_ne_of_not_mem (zneT gqa_1 gv_1 (by simp)) (List.not_mem_cons_of_ne_of_not_mem (zneT gqa_1 gpa_1 (by simp)) (List.not_mem_cons_of_ne_of_not_mem (zneT gqa_1 gtx_1 (by simp)) (List.not_mem_cons_of_ne_of_not_mem (zneT gqa_1 gma_1 (by simp)) (List.not_mem_cons_of_ne_of_not_mem (zneT gqa_1 gna_1 (by simp)) (List.not_mem_cons_of_ne_of_not_mem (zneT gqa_1 gua_1 (by simp)) (List.not_mem_cons_of_ne_of_not_mem (zneT gqa_1 gla_1 (by simp)) List.not_mem_nil))))))))), gd_1⟩ hS hsl rsh) (lw_V q2210 q2212 qs35 q74 q2213) (by decide +kernel) ⟨by decide, by decide⟩ fh2_0 rfl rfl rfl (Nat.le_of_ble_eq_true rfl) dX4_findKey_6 (by omega) (by omega) (zpk (st' := [.int (iI ((lik σ.sh.cs).1 + 100 * (lik σ.sh.cs).2))]) rfl ?_) zrx
  exact z_ireturn (pc := 9) C (by rw [hXp]; exact ⟨_, rfl, rfl, ⟨ap, nt, rr, rq, rb, wh, nd, up, lo, V, P, T, M, N, U, W, ⟨fh2_0, fh2_1, fh2_2, fh2_3, fh2_4, fh2_5, fh2_6, fh2_7, (kh2.n gle_1 (List.not_mem_cons_of_ne_of_not_mem (Ne.symm (zneA gm_1 gle_1)) (List.not_mem_cons_of_ne_of_not_mem (zneT gle_1 gv_1 (by simp)) (List.not_mem_cons_of_ne_of_not_mem (zneT gle_1 gpa_1 (by simp)) (List.not_mem_cons_of_ne_of_not_mem (zneT gle_1 gtx_1 (by simp)) (List.not_mem_cons_of_ne_of_not_mem (zneT gle_1 gma_1 (by simp)) (List.not_mem_cons_of_ne_of_not_mem (zneT gle_1 gna_1 (by simp)) (List.not_mem_cons_of_ne_of_not_mem (zneT gle_1 gua_1 (by simp)) (List.not_mem_cons_of_ne_of_not_mem (zneT gle_1 gla_1 (by simp)) List.not_mem_nil))))))))), (kh2.n gqa_1 (List.not_mem_cons_of_ne_of_not_mem (Ne.symm (zneA gm_1 gqa_1)) (List.not_mem_cons_of_ne_of_not_mem (zneT gqa_1 gv_1 (by simp)) (List.not_mem_cons_of_ne_of_not_mem (zneT gqa_1 gpa_1 (by simp)) (List.not_mem_cons_of_ne_of_not_mem (zneT gqa_1 gtx_1 (by simp)) (List.not_mem_cons_of_ne_of_not_mem (zneT gqa_1 gma_1 (by simp)) (List.not_mem_cons_of_ne_of_not_mem (zneT gqa_1 gna_1 (by simp)) (List.not_mem_cons_of_ne_of_not_mem (zneT gqa_1 gua_1 (by simp)) (List.not_mem_cons_of_ne_of_not_mem (zneT gqa_1 gla_1 (by simp)) List.not_mem_nil))))))))), gd_1⟩, hS, hP, htq, hR, hsl, hslh⟩, kh2⟩) dX4_findKey_9
set_option maxHeartbeats 4000000 in
theorem md_score {l : Launch} (hl : l.stackTraces = false) {Γ : zCx} {h : zH} {A : zMA} {σ : zSt} {th : Int} (hW : mdW h A σ th) {t m : Int} (ht : -6 ≤ t ∧ t ≤ 9) (hm : m = 0 ∨ m = 1) (hs : -6 ≤ sgn t m ∧ sgn t m ≤ 6)  : zMet l yX4_score (ws_ yX4_score cX4_score 3 (some .int)) ({ frames := 4, cells := 0, slots := 0, locals := 89 }) Γ h [.ref A.m, .int (iI t), .int (iI m)] (zrt (fun w h' => w = some (.int (iI (scl t m σ.sh.cs))) ∧ mdW h' A σ 0 ∧ zkeep h h' [A.m, A.v, A.pa, A.tx, A.ma, A.na, A.ua, A.la])) 0 0 := by
  refine zMet.of (cc := cX4_score) hl (plainFor_of_name (by decide +kernel)) (Nat.le_of_ble_eq_true rfl) ?_
  intro X hXl hXΓ hXp C hnm hnL
  have C : zC X cX4_score RX4 (some .int) 4 89 [] := C
  have hnL : X.2.1.2.2.2.2 = 3 := hnL
  subst hXl hXΓ
  show Z X h 0 0 [(0, .ref A.m), (1, .int (iI t)), (2, .int (iI m))] 0 []
  obtain ⟨ap, nt, rr, rq, rb, wh, nd, up, lo, V, P, T, M, N, U, W, hM, hS, hP, htq, hR, hsl, hslh⟩ := id hW
  obtain ⟨rsi, rff, rwd, rtl, rtx, rsh, rhi, rhl⟩ := id hR
  obtain ⟨rcl, rcr, rll, rlt, rkt, rkm, rks⟩ := id rsh
  obtain ⟨hsl1, hsl2, hsl3⟩ := id hsl
  have hTr := rtx
  have hTl := rtl
  obtain ⟨gm_1, gv_1, gpa_1, gtx_1, gma_1, gna_1, gua_1, gla_1, gle_1, gqa_1, gd_1⟩ := id hM
  refine z_aload_n (pc := 0) (j := 0) C dX4_score_0 rfl rfl ?_
  refine z_iconst (pc := 1) C dX4_score_1 ?_
  refine z_putfield (pc := 2) (fs' := [.ref A.v, .ref A.pa, .int (iI ((σ.hi.length : Nat) : Int)), .ref A.tx, .int (iI ((σ.tx.length : Nat) : Int)), .int (iI σ.si), .int (iI σ.fl), .int (iI σ.wd), .int (iI 0), .ref A.le, .ref A.qa, .int (iI ap), .int (iI nt), .int (iI rr), .int (iI rq), .int (iI rb), .int (iI wh), .ref A.ma, .ref A.na, .int (iI nd), .ref A.ua, .ref A.la, .int (iI up), .int (iI lo)]) C in_X4 tyX4 tyX4_ok nmX4 rfl 8 (by decide) q2090 (fun _ z => z) rfl rfl rfl (Nat.le_of_ble_eq_true rfl) gm_1 rfl dX4_score_2 ?_
  refine Z.nm (fun h2 eh2 => ?_)
  have kh2 : zkeep h h2 [A.m, A.v, A.pa, A.tx, A.ma, A.na, A.ua, A.la] := by rw [eh2]; exact zkeep.up zkeep.rf (Or.inl (by simp)) gm_1
  have fh2_0 : h2 A.m = some (true, .inr (3, [.ref A.v, .ref A.pa, .int (iI ((σ.hi.length : Nat) : Int)), .ref A.tx, .int (iI ((σ.tx.length : Nat) : Int)), .int (iI σ.si), .int (iI σ.fl), .int (iI σ.wd), .int (iI 0), .ref A.le, .ref A.qa, .int (iI ap), .int (iI nt), .int (iI rr), .int (iI rq), .int (iI rb), .int (iI wh), .ref A.ma, .ref A.na, .int (iI nd), .ref A.ua, .ref A.la, .int (iI up), .int (iI lo)])) := zse eh2
  have fh2_1 : h2 A.v = some (true, .inl (.int, 620, (mA V))) := zsn eh2 gv_1 (Ne.symm (zneA gm_1 gv_1))
  have fh2_2 : h2 A.pa = some (true, .inl (.int, 4960, (mA P))) := zsn eh2 gpa_1 (Ne.symm (zneA gm_1 gpa_1))
  have fh2_3 : h2 A.tx = some (true, .inl (.int, 200, (mA T))) := zsn eh2 gtx_1 (Ne.symm (zneA gm_1 gtx_1))
  have fh2_4 : h2 A.ma = some (true, .inl (.int, 620, (mA M))) := zsn eh2 gma_1 (Ne.symm (zneA gm_1 gma_1))
  have fh2_5 : h2 A.na = some (true, .inl (.int, 20, (mA N))) := zsn eh2 gna_1 (Ne.symm (zneA gm_1 gna_1))
  have fh2_6 : h2 A.ua = some (true, .inl (.int, 1200, (mA U))) := zsn eh2 gua_1 (Ne.symm (zneA gm_1 gua_1))
  have fh2_7 : h2 A.la = some (true, .inl (.int, 1200, (mA W))) := zsn eh2 gla_1 (Ne.symm (zneA gm_1 gla_1))
  refine z_iload_n (pc := 5) (j := 1) C dX4_score_5 rfl rfl ?_
  refine z_iload_n (pc := 6) (j := 2) C dX4_score_6 rfl rfl ?_
  refine z_callS (pc := 7) (n := 2) (kc' := 0) (ks' := 0) C (m_isKey C.t (p := t) (b := m) (by omega) (by omega)) (lw_S q2385 q2386 q74 q2387) (by decide +kernel) ⟨by decide, by decide⟩ rfl rfl (Nat.le_of_ble_eq_true rfl) dX4_score_7 (by omega) (by omega) (zpk (st' := [.int (iI (if -6 ≤ sgn t m ∧ sgn t m ≤ 6 then 1 else 0))]) rfl ?_) zrx
  rw [show ((if -6 ≤ sgn t m ∧ sgn t m ≤ 6 then 1 else 0) : Int) = 1 from if_pos (by omega)]
  show Z X h2 0 0 [(0, .ref A.m), (1, .int (iI t)), (2, .int (iI m))] 10 [.int (iI 1)]
  refine z_if_eq (pc := 10) (tgt := 22) C dX4_score_10 (by decide) (by decide) (fun z => absurd z (by decide)) (fun _ => ?_)
  refine z_aload_n (pc := 13) (j := 0) C dX4_score_13 rfl rfl ?_
  refine z_iload_n (pc := 14) (j := 1) C dX4_score_14 rfl rfl ?_
  refine z_iload_n (pc := 15) (j := 2) C dX4_score_15 rfl rfl ?_
  refine z_callV (pc := 16) (n := 2) (kc' := 0) (ks' := 0) C (m_score C.t ⟨fh2_0, fh2_1, fh2_2, fh2_3, fh2_4, fh2_5, fh2_6, fh2_7, (kh2.n gle_1 (List.not_mem_cons_of_ne_of_not_mem (Ne.symm (zneA gm_1 gle_1)) (List.not_mem_cons_of_ne_of_not_mem (zneT gle_1 gv_1 (by simp)) (List.not_mem_cons_of_ne_of_not_mem (zneT gle_1 gpa_1 (by simp)) (List.not_mem_cons_of_ne_of_not_mem (zneT gle_1 gtx_1 (by simp)) (List.not_mem_cons_of_ne_of_not_mem (zneT gle_1 gma_1 (by simp)) (List.not_mem_cons_of_ne_of_not_mem (zneT gle_1 gna_1 (by simp)) (List.not_mem_cons_of_ne_of_not_mem (zneT gle_1 gua_1 (by simp)) (List.not_mem_cons_of_ne_of_not_mem (zneT gle_1 gla_1 (by simp)) List.not_mem_nil))))))))), (kh2.n gqa_1 (List.not_mem_cons_of_ne_of_not_mem (Ne.symm (zneA gm_1 gqa_1)) (List.not_mem_cons_of_ne_of_not_mem (zneT gqa_1 gv_1 (by simp)) (List.not_mem_cons_of_ne_of_not_mem (zneT gqa_1 gpa_1 (by simp)) (List.not_mem_cons_of_ne_of_not_mem (zneT gqa_1 gtx_1 (by simp)) (List.not_mem_cons_of_ne_of_not_mem (zneT gqa_1 gma_1 (by simp)) (List.not_mem_cons_of_ne_of_not_mem (zneT gqa_1 gna_1 (by simp)) (List.not_mem_cons_of_ne_of_not_mem (zneT gqa_1 gua_1 (by simp)) (List.not_mem_cons_of_ne_of_not_mem (zneT gqa_1 gla_1 (by simp)) List.not_mem_nil))))))))), gd_1⟩ hS hsl rsh (p := t) (b := m) (by omega) (by omega)) (lw_V q2214 q2216 qs36 q74 q2217) (by decide +kernel) ⟨by decide, by decide⟩ fh2_0 rfl rfl rfl (Nat.le_of_ble_eq_true rfl) dX4_score_16 (by omega) (by omega) (zpk (st' := [.int (iI (scl t m σ.sh.cs))]) rfl ?_) zrx
  have hscr19 := scl_r t m σ.sh.cs
  refine z_goto (pc := 19) (tgt := 27) C dX4_score_19 (by decide) ?_
  exact z_ireturn (pc := 27) C (by rw [hXp]; exact ⟨_, rfl, rfl, ⟨ap, nt, rr, rq, rb, wh, nd, up, lo, V, P, T, M, N, U, W, ⟨fh2_0, fh2_1, fh2_2, fh2_3, fh2_4, fh2_5, fh2_6, fh2_7, (kh2.n gle_1 (List.not_mem_cons_of_ne_of_not_mem (Ne.symm (zneA gm_1 gle_1)) (List.not_mem_cons_of_ne_of_not_mem (zneT gle_1 gv_1 (by simp)) (List.not_mem_cons_of_ne_of_not_mem (zneT gle_1 gpa_1 (by simp)) (List.not_mem_cons_of_ne_of_not_mem (zneT gle_1 gtx_1 (by simp)) (List.not_mem_cons_of_ne_of_not_mem (zneT gle_1 gma_1 (by simp)) (List.not_mem_cons_of_ne_of_not_mem (zneT gle_1 gna_1 (by simp)) (List.not_mem_cons_of_ne_of_not_mem (zneT gle_1 gua_1 (by simp)) (List.not_mem_cons_of_ne_of_not_mem (zneT gle_1 gla_1 (by simp)) List.not_mem_nil))))))))), (kh2.n gqa_1 (List.not_mem_cons_of_ne_of_not_mem (Ne.symm (zneA gm_1 gqa_1)) (List.not_mem_cons_of_ne_of_not_mem (zneT gqa_1 gv_1 (by simp)) (List.not_mem_cons_of_ne_of_not_mem (zneT gqa_1 gpa_1 (by simp)) (List.not_mem_cons_of_ne_of_not_mem (zneT gqa_1 gtx_1 (by simp)) (List.not_mem_cons_of_ne_of_not_mem (zneT gqa_1 gma_1 (by simp)) (List.not_mem_cons_of_ne_of_not_mem (zneT gqa_1 gna_1 (by simp)) (List.not_mem_cons_of_ne_of_not_mem (zneT gqa_1 gua_1 (by simp)) (List.not_mem_cons_of_ne_of_not_mem (zneT gqa_1 gla_1 (by simp)) List.not_mem_nil))))))))), gd_1⟩, hS, hP, htq, hR, hsl, hslh⟩, kh2⟩) dX4_score_27
set_option maxHeartbeats 4000000 in
theorem md_score_b {l : Launch} (hl : l.stackTraces = false) {Γ : zCx} {h : zH} {A : zMA} {σ : zSt} {th : Int} (hW : mdW h A σ th) {t m : Int} (hr : -2147483648 ≤ t ∧ t ≤ 2147483647) (hm : m = 0 ∨ m = 1) (hs : ¬ (-6 ≤ sgn t m ∧ sgn t m ≤ 6))  : zMet l yX4_score (ws_ yX4_score cX4_score 3 (some .int)) ({ frames := 2, cells := 0, slots := 0, locals := 43 }) Γ h [.ref A.m, .int (iI t), .int (iI m)] (zrt (fun w h' => w = some (.int (iI (0))) ∧ mdW h' A σ 1 ∧ zkeep h h' [A.m, A.v, A.pa, A.tx, A.ma, A.na, A.ua, A.la])) 0 0 := by
  refine zMet.of (cc := cX4_score) hl (plainFor_of_name (by decide +kernel)) (Nat.le_of_ble_eq_true rfl) ?_
  intro X hXl hXΓ hXp C hnm hnL
  have C : zC X cX4_score RX4 (some .int) 2 43 [] := C
  have hnL : X.2.1.2.2.2.2 = 3 := hnL
  subst hXl hXΓ
  show Z X h 0 0 [(0, .ref A.m), (1, .int (iI t)), (2, .int (iI m))] 0 []
  obtain ⟨ap, nt, rr, rq, rb, wh, nd, up, lo, V, P, T, M, N, U, W, hM, hS, hP, htq, hR, hsl, hslh⟩ := id hW
  obtain ⟨rsi, rff, rwd, rtl, rtx, rsh, rhi, rhl⟩ := id hR
  obtain ⟨rcl, rcr, rll, rlt, rkt, rkm, rks⟩ := id rsh
  obtain ⟨hsl1, hsl2, hsl3⟩ := id hsl
  have hTr := rtx
  have hTl := rtl
  obtain ⟨gm_1, gv_1, gpa_1, gtx_1, gma_1, gna_1, gua_1, gla_1, gle_1, gqa_1, gd_1⟩ := id hM
  refine z_aload_n (pc := 0) (j := 0) C dX4_score_0 rfl rfl ?_
  refine z_iconst (pc := 1) C dX4_score_1 ?_
  refine z_putfield (pc := 2) (fs' := [.ref A.v, .ref A.pa, .int (iI ((σ.hi.length : Nat) : Int)), .ref A.tx, .int (iI ((σ.tx.length : Nat) : Int)), .int (iI σ.si), .int (iI σ.fl), .int (iI σ.wd), .int (iI 0), .ref A.le, .ref A.qa, .int (iI ap), .int (iI nt), .int (iI rr), .int (iI rq), .int (iI rb), .int (iI wh), .ref A.ma, .ref A.na, .int (iI nd), .ref A.ua, .ref A.la, .int (iI up), .int (iI lo)]) C in_X4 tyX4 tyX4_ok nmX4 rfl 8 (by decide) q2090 (fun _ z => z) rfl rfl rfl (Nat.le_of_ble_eq_true rfl) gm_1 rfl dX4_score_2 ?_
  refine Z.nm (fun h2 eh2 => ?_)
  have kh2 : zkeep h h2 [A.m, A.v, A.pa, A.tx, A.ma, A.na, A.ua, A.la] := by rw [eh2]; exact zkeep.up zkeep.rf (Or.inl (by simp)) gm_1
  have fh2_0 : h2 A.m = some (true, .inr (3, [.ref A.v, .ref A.pa, .int (iI ((σ.hi.length : Nat) : Int)), .ref A.tx, .int (iI ((σ.tx.length : Nat) : Int)), .int (iI σ.si), .int (iI σ.fl), .int (iI σ.wd), .int (iI 0), .ref A.le, .ref A.qa, .int (iI ap), .int (iI nt), .int (iI rr), .int (iI rq), .int (iI rb), .int (iI wh), .ref A.ma, .ref A.na, .int (iI nd), .ref A.ua, .ref A.la, .int (iI up), .int (iI lo)])) := zse eh2
  have fh2_1 : h2 A.v = some (true, .inl (.int, 620, (mA V))) := zsn eh2 gv_1 (Ne.symm (zneA gm_1 gv_1))
  have fh2_2 : h2 A.pa = some (true, .inl (.int, 4960, (mA P))) := zsn eh2 gpa_1 (Ne.symm (zneA gm_1 gpa_1))
  have fh2_3 : h2 A.tx = some (true, .inl (.int, 200, (mA T))) := zsn eh2 gtx_1 (Ne.symm (zneA gm_1 gtx_1))
  have fh2_4 : h2 A.ma = some (true, .inl (.int, 620, (mA M))) := zsn eh2 gma_1 (Ne.symm (zneA gm_1 gma_1))
  have fh2_5 : h2 A.na = some (true, .inl (.int, 20, (mA N))) := zsn eh2 gna_1 (Ne.symm (zneA gm_1 gna_1))
  have fh2_6 : h2 A.ua = some (true, .inl (.int, 1200, (mA U))) := zsn eh2 gua_1 (Ne.symm (zneA gm_1 gua_1))
  have fh2_7 : h2 A.la = some (true, .inl (.int, 1200, (mA W))) := zsn eh2 gla_1 (Ne.symm (zneA gm_1 gla_1))
  refine z_iload_n (pc := 5) (j := 1) C dX4_score_5 rfl rfl ?_
  refine z_iload_n (pc := 6) (j := 2) C dX4_score_6 rfl rfl ?_
  refine z_callS (pc := 7) (n := 2) (kc' := 0) (ks' := 0) C (m_isKey C.t (p := t) (b := m) (by omega) (by omega)) (lw_S q2385 q2386 q74 q2387) (by decide +kernel) ⟨by decide, by decide⟩ rfl rfl (Nat.le_of_ble_eq_true rfl) dX4_score_7 (by omega) (by omega) (zpk (st' := [.int (iI (if -6 ≤ sgn t m ∧ sgn t m ≤ 6 then 1 else 0))]) rfl ?_) zrx
  rw [show ((if -6 ≤ sgn t m ∧ sgn t m ≤ 6 then 1 else 0) : Int) = 0 from if_neg (by omega)]
  show Z X h2 0 0 [(0, .ref A.m), (1, .int (iI t)), (2, .int (iI m))] 10 [.int (iI 0)]
  refine z_if_eq (pc := 10) (tgt := 22) C dX4_score_10 (by decide) (by decide) (fun _ => ?_) (fun z => absurd z (by decide))
  refine z_aload_n (pc := 22) (j := 0) C dX4_score_22 rfl rfl ?_
  refine z_iconst (pc := 23) C dX4_score_23 ?_
  refine z_callV (pc := 24) (n := 1) (kc' := 0) (ks' := 0) C (m_fails C.t ⟨fh2_0, fh2_1, fh2_2, fh2_3, fh2_4, fh2_5, fh2_6, fh2_7, (kh2.n gle_1 (List.not_mem_cons_of_ne_of_not_mem (Ne.symm (zneA gm_1 gle_1)) (List.not_mem_cons_of_ne_of_not_mem (zneT gle_1 gv_1 (by simp)) (List.not_mem_cons_of_ne_of_not_mem (zneT gle_1 gpa_1 (by simp)) (List.not_mem_cons_of_ne_of_not_mem (zneT gle_1 gtx_1 (by simp)) (List.not_mem_cons_of_ne_of_not_mem (zneT gle_1 gma_1 (by simp)) (List.not_mem_cons_of_ne_of_not_mem (zneT gle_1 gna_1 (by simp)) (List.not_mem_cons_of_ne_of_not_mem (zneT gle_1 gua_1 (by simp)) (List.not_mem_cons_of_ne_of_not_mem (zneT gle_1 gla_1 (by simp)) List.not_mem_nil))))))))), (kh2.n gqa_1 (List.not_mem_cons_of_ne_of_not_mem (Ne.symm (zneA gm_1 gqa_1)) (List.not_mem_cons_of_ne_of_not_mem (zneT gqa_1 gv_1 (by simp)) (List.not_mem_cons_of_ne_of_not_mem (zneT gqa_1 gpa_1 (by simp)) (List.not_mem_cons_of_ne_of_not_mem (zneT gqa_1 gtx_1 (by simp)) (List.not_mem_cons_of_ne_of_not_mem (zneT gqa_1 gma_1 (by simp)) (List.not_mem_cons_of_ne_of_not_mem (zneT gqa_1 gna_1 (by simp)) (List.not_mem_cons_of_ne_of_not_mem (zneT gqa_1 gua_1 (by simp)) (List.not_mem_cons_of_ne_of_not_mem (zneT gqa_1 gla_1 (by simp)) List.not_mem_nil))))))))), gd_1⟩ (x := 1)) (lw_V q2167 q2169 qs27 q74 q2170) (by decide +kernel) ⟨by decide, by decide⟩ fh2_0 rfl rfl rfl (Nat.le_of_ble_eq_true rfl) dX4_score_24 (by omega) (by omega) (zrk fun w h3 hp => ?_) zrx
  obtain ⟨rfl, hM_5, k4⟩ := hp
  have kh3 : zkeep h h3 [A.m, A.v, A.pa, A.tx, A.ma, A.na, A.ua, A.la] := zkeep.loc kh2 k4 (fun q hq => Or.inl (Or.inr hq))
  have hM_5 : mM h3 A ((σ.hi.length : Nat) : Int) ((σ.tx.length : Nat) : Int) σ.si σ.fl σ.wd 1 ap nt rr rq rb wh nd up lo V P T M N U W := hM_5
  obtain ⟨gm_6, gv_6, gpa_6, gtx_6, gma_6, gna_6, gua_6, gla_6, gle_6, gqa_6, gd_6⟩ := id hM_5
  show Z X h3 0 0 [(0, .ref A.m), (1, .int (iI t)), (2, .int (iI m))] 27 [.int (iI 0)]
  exact z_ireturn (pc := 27) C (by rw [hXp]; exact ⟨_, rfl, rfl, ⟨ap, nt, rr, rq, rb, wh, nd, up, lo, V, P, T, M, N, U, W, ⟨gm_6, gv_6, gpa_6, gtx_6, gma_6, gna_6, gua_6, gla_6, gle_6, gqa_6, gd_6⟩, hS, hP, htq, hR, hsl, hslh⟩, kh3⟩) dX4_score_27
set_option maxHeartbeats 4000000 in
theorem m_acts {l : Launch} (hl : l.stackTraces = false) {Γ : zCx} {h : zH} {hi : List zSh} {A : zMA} {ty si ff wd th ap nt rr rq rb wh nd up lo : Int} {V P T M N U W : Nat → Int} (hM : mM h A ((hi.length : Nat) : Int) ty si ff wd th ap nt rr rq rb wh nd up lo V P T M N U W) {S : zSh} (hS : vS V S) (hsl : shL S) (hP : pS P hi) (hh : ∀ S ∈ hi, shL S) (hhl : hi.length ≤ 8)  : zMet l yX4_acts (ws_ yX4_acts cX4_acts 2 none) ({ frames := 0, cells := 0, slots := 0, locals := 0 }) Γ h [.ref A.m] (zrt (fun w h' => ∃ P', w = none ∧ mM h' A ((hiP hi S).length : Nat) ty si ff wd th ap nt rr rq rb wh nd up lo V P' T M N U W ∧ pS P' (hiP hi S) ∧ zkeep h h' [A.m, A.v, A.pa, A.tx, A.ma, A.na, A.ua, A.la])) 0 0 := by
  refine zMet.of (cc := cX4_acts) hl (plainFor_of_name (by decide +kernel)) (Nat.le_of_ble_eq_true rfl) ?_
  intro X hXl hXΓ hXp C hnm hnL
  have C : zC X cX4_acts RX4 none 0 0 [] := C
  have hnL : X.2.1.2.2.2.2 = 2 := hnL
  subst hXl hXΓ
  show Z X h 0 0 [(0, .ref A.m)] 0 []
  obtain ⟨gm_1, gv_1, gpa_1, gtx_1, gma_1, gna_1, gua_1, gla_1, gle_1, gqa_1, gd_1⟩ := id hM
  refine z_aload_n (pc := 0) (j := 0) C dX4_acts_0 rfl rfl ?_
  refine z_getfield (pc := 1) (v := .int (iI ((hi.length : Nat) : Int))) C in_X4 rfl 2 (by decide) q2084 (fun _ z => z) gm_1 rfl dX4_acts_1 ?_
  refine z_bipush (pc := 4) C dX4_acts_4 (by decide) ?_
  refine z_icmp_ne (pc := 6) (tgt := 50) C dX4_acts_6 (by decide) (by omega) (by decide) (fun c6 => ?_) (fun c6 => ?_)
  · have hPs := hP
    have hxl : hi.length < 8 := by omega
    have hxs := hh
    have hpe : hiP hi S = hi ++ [S] := by unfold hiP; rw [if_neg (by omega)]
    refine z_iconst (pc := 50) C dX4_acts_50 ?_
    refine z_istore_n (pc := 51) (L' := [(1, .int (iI 0)), (0, .ref A.m)]) C dX4_acts_51 rfl (by rw [hnL]; decide) rfl ?_
    have hst9 : (((hi).length : Nat) : Int) = (((hi).length : Nat) : Int) := rfl
    have loop52 : ∀ (n52 : Nat) (k2 : Int) (P2 : Nat → Int) (g52 : zH), (mM g52 A ((hi.length : Nat) : Int) ty si ff wd th ap nt rr rq rb wh nd up lo V P2 T M N U W) → (zkeep h g52 [A.m, A.v, A.pa, A.tx, A.ma, A.na, A.ua, A.la]) → (0 ≤ k2 ∧ k2 ≤ 620) → (∀ j, P2 j = if 620 * (hi).length ≤ j ∧ j < 620 * (hi).length + k2.toNat then V (j - 620 * (hi).length) else P j) → ((620 - k2).toNat) = n52 → Z X g52 0 0 [(1, .int (iI k2)), (0, .ref A.m)] 52 [] := by
      intro n52
      induction n52 using Nat.strongRecOn with
      | ind n52 ih52 =>
      intro k2 P2 g52 hMg52 hkp52 hk2 hq2 hn52
      obtain ⟨gm_2, gv_2, gpa_2, gtx_2, gma_2, gna_2, gua_2, gla_2, gle_2, gqa_2, gd_2⟩ := id hMg52
      refine z_iload_n (pc := 52) (j := 0) C dX4_acts_52 rfl rfl ?_
      refine z_sipush (pc := 53) C dX4_acts_53 (by decide) ?_
      refine z_icmp_ge (pc := 56) (tgt := 86) C dX4_acts_56 (by decide) (by omega) (by decide) (fun c56 => ?_) (fun c56 => ?_)
      · refine z_aload_n (pc := 86) (j := 1) C dX4_acts_86 rfl rfl ?_
        refine z_dup (pc := 87) C dX4_acts_87 rfl ?_
        refine z_getfield (pc := 88) (v := .int (iI ((hi.length : Nat) : Int))) C in_X4 rfl 2 (by decide) q2084 (fun _ z => z) gm_2 rfl dX4_acts_88 ?_
        refine z_iconst (pc := 91) C dX4_acts_91 ?_
        refine z_iadd (pc := 92) C dX4_acts_92 ?_
        refine z_putfield (pc := 93) (fs' := [.ref A.v, .ref A.pa, .int (iI (((hi.length : Nat) : Int) + 1)), .ref A.tx, .int (iI ty), .int (iI si), .int (iI ff), .int (iI wd), .int (iI th), .ref A.le, .ref A.qa, .int (iI ap), .int (iI nt), .int (iI rr), .int (iI rq), .int (iI rb), .int (iI wh), .ref A.ma, .ref A.na, .int (iI nd), .ref A.ua, .ref A.la, .int (iI up), .int (iI lo)]) C in_X4 tyX4 tyX4_ok nmX4 rfl 2 (by decide) q2084 (fun _ z => z) rfl rfl rfl (Nat.le_of_ble_eq_true rfl) gm_2 rfl dX4_acts_93 ?_
        refine Z.nm (fun h3 eh3 => ?_)
        have kh3 : zkeep h h3 [A.m, A.v, A.pa, A.tx, A.ma, A.na, A.ua, A.la] := by rw [eh3]; exact zkeep.up hkp52 (Or.inl (by simp)) gm_2
        have fh3_0 : h3 A.m = some (true, .inr (3, [.ref A.v, .ref A.pa, .int (iI (((hi.length : Nat) : Int) + 1)), .ref A.tx, .int (iI ty), .int (iI si), .int (iI ff), .int (iI wd), .int (iI th), .ref A.le, .ref A.qa, .int (iI ap), .int (iI nt), .int (iI rr), .int (iI rq), .int (iI rb), .int (iI wh), .ref A.ma, .ref A.na, .int (iI nd), .ref A.ua, .ref A.la, .int (iI up), .int (iI lo)])) := zse eh3
        have fh3_1 : h3 A.v = some (true, .inl (.int, 620, (mA V))) := zsn eh3 gv_2 (Ne.symm (zneA gm_2 gv_2))
        have fh3_2 : h3 A.pa = some (true, .inl (.int, 4960, (mA P2))) := zsn eh3 gpa_2 (Ne.symm (zneA gm_2 gpa_2))
        have fh3_3 : h3 A.tx = some (true, .inl (.int, 200, (mA T))) := zsn eh3 gtx_2 (Ne.symm (zneA gm_2 gtx_2))
        have fh3_4 : h3 A.ma = some (true, .inl (.int, 620, (mA M))) := zsn eh3 gma_2 (Ne.symm (zneA gm_2 gma_2))
        have fh3_5 : h3 A.na = some (true, .inl (.int, 20, (mA N))) := zsn eh3 gna_2 (Ne.symm (zneA gm_2 gna_2))
        have fh3_6 : h3 A.ua = some (true, .inl (.int, 1200, (mA U))) := zsn eh3 gua_2 (Ne.symm (zneA gm_2 gua_2))
        have fh3_7 : h3 A.la = some (true, .inl (.int, 1200, (mA W))) := zsn eh3 gla_2 (Ne.symm (zneA gm_2 gla_2))
        have fh3_8 : h3 A.le = some (true, .inl (.char, 7, (mA ltF))) := zsn eh3 gle_2 (Ne.symm (zneA gm_2 gle_2))
        have fh3_9 : h3 A.qa = some (true, .inl (.char, 30, (mA qaF))) := zsn eh3 gqa_2 (Ne.symm (zneA gm_2 gqa_2))
        have hPn : pS P2 (hiP hi S) := by
          rw [hpe]
          exact hPs.push hxs hsl hS hxl (fun j hj => by rw [hq2 j, if_neg (by omega)]) (fun k hk => by rw [hq2 _, if_pos (by omega)]; congr 1; omega)
        have hdl2 : ((hi.length : Nat) : Int) + 1 = (((hiP hi S).length : Nat) : Int) := by rw [hpe, List.length_append]; simp
        have gz4 : h3 A.m = some (true, .inr (3, [.ref A.v, .ref A.pa, .int (iI (((hiP hi S).length : Nat) : Int)), .ref A.tx, .int (iI ty), .int (iI si), .int (iI ff), .int (iI wd), .int (iI th), .ref A.le, .ref A.qa, .int (iI ap), .int (iI nt), .int (iI rr), .int (iI rq), .int (iI rb), .int (iI wh), .ref A.ma, .ref A.na, .int (iI nd), .ref A.ua, .ref A.la, .int (iI up), .int (iI lo)])) := hdl2 ▸ fh3_0
        exact z_return (pc := 96) C (by rw [hXp]; exact ⟨_, rfl, P2, rfl, ⟨gz4, fh3_1, fh3_2, fh3_3, fh3_4, fh3_5, fh3_6, fh3_7, fh3_8, fh3_9, gd_2⟩, hPn, kh3⟩) dX4_acts_96
      · refine z_aload_n (pc := 59) (j := 1) C dX4_acts_59 rfl rfl ?_
        refine z_getfield (pc := 60) (v := .ref A.pa) C in_X4 rfl 1 (by decide) q2083 (fun _ z => z) gm_2 rfl dX4_acts_60 ?_
        refine z_sipush (pc := 63) C dX4_acts_63 (by decide) ?_
        refine z_aload_n (pc := 66) (j := 1) C dX4_acts_66 rfl rfl ?_
        refine z_getfield (pc := 67) (v := .int (iI ((hi.length : Nat) : Int))) C in_X4 rfl 2 (by decide) q2084 (fun _ z => z) gm_2 rfl dX4_acts_67 ?_
        refine z_imul (pc := 70) C dX4_acts_70 ?_
        refine z_iload_n (pc := 71) (j := 0) C dX4_acts_71 rfl rfl ?_
        refine z_iadd (pc := 72) C dX4_acts_72 ?_
        refine z_aload_n (pc := 73) (j := 1) C dX4_acts_73 rfl rfl ?_
        refine z_getfield (pc := 74) (v := .ref A.v) C in_X4 rfl 0 (by decide) q2082 (fun _ z => z) gm_2 rfl dX4_acts_74 ?_
        refine z_iload_n (pc := 77) (j := 0) C dX4_acts_77 rfl rfl ?_
        refine z_iaload (pc := 78) (v := .int (iI (V (Int.toNat k2)))) C gv_2 (by omega) rfl dX4_acts_78 ?_
        refine z_iastore (pc := 79) (f' := (mA (updI P2 (Int.toNat ((620 * ((hi.length : Nat) : Int)) + k2)) (V (Int.toNat k2))))) C gpa_2 (by omega) (mA_up _ _ _) dX4_acts_79 ?_
        refine Z.nm (fun h5 eh5 => ?_)
        have kh5 : zkeep h h5 [A.m, A.v, A.pa, A.tx, A.ma, A.na, A.ua, A.la] := by rw [eh5]; exact zkeep.up hkp52 (Or.inl (by simp)) gpa_2
        have fh5_0 : h5 A.pa = some (true, .inl (.int, 4960, (mA (updI P2 (Int.toNat ((620 * ((hi.length : Nat) : Int)) + k2)) (V (Int.toNat k2)))))) := zse eh5
        have fh5_1 : h5 A.m = some (true, .inr (3, [.ref A.v, .ref A.pa, .int (iI ((hi.length : Nat) : Int)), .ref A.tx, .int (iI ty), .int (iI si), .int (iI ff), .int (iI wd), .int (iI th), .ref A.le, .ref A.qa, .int (iI ap), .int (iI nt), .int (iI rr), .int (iI rq), .int (iI rb), .int (iI wh), .ref A.ma, .ref A.na, .int (iI nd), .ref A.ua, .ref A.la, .int (iI up), .int (iI lo)])) := zsn eh5 gm_2 (zneA gm_2 gpa_2)
        have fh5_2 : h5 A.v = some (true, .inl (.int, 620, (mA V))) := zsn eh5 gv_2 gd_2.1
        have fh5_3 : h5 A.tx = some (true, .inl (.int, 200, (mA T))) := zsn eh5 gtx_2 (Ne.symm gd_2.2.2.2.2.2.2.1)
        have fh5_4 : h5 A.ma = some (true, .inl (.int, 620, (mA M))) := zsn eh5 gma_2 (Ne.symm gd_2.2.2.2.2.2.2.2.1)
        have fh5_5 : h5 A.na = some (true, .inl (.int, 20, (mA N))) := zsn eh5 gna_2 (Ne.symm gd_2.2.2.2.2.2.2.2.2.1)
        have fh5_6 : h5 A.ua = some (true, .inl (.int, 1200, (mA U))) := zsn eh5 gua_2 (Ne.symm gd_2.2.2.2.2.2.2.2.2.2.1)
        have fh5_7 : h5 A.la = some (true, .inl (.int, 1200, (mA W))) := zsn eh5 gla_2 (Ne.symm gd_2.2.2.2.2.2.2.2.2.2.2.1)
        have fh5_8 : h5 A.le = some (true, .inl (.char, 7, (mA ltF))) := zsn eh5 gle_2 (zneT gle_2 gpa_2 (by simp))
        have fh5_9 : h5 A.qa = some (true, .inl (.char, 30, (mA qaF))) := zsn eh5 gqa_2 (zneT gqa_2 gpa_2 (by simp))
        refine z_iinc (pc := 80) (k := 0) (L' := [(1, .int (iI (k2 + 1))), (0, .ref A.m)]) C dX4_acts_80 rfl (by rw [hnL]; decide) rfl ?_
        refine z_goto (pc := 83) (tgt := 52) C dX4_acts_83 (by decide) ?_
        refine Z.weak (L' := [(1, .int (iI (k2 + 1))), (0, .ref A.m)]) (kc' := 0) (ks' := 0) [0, 1] rfl (by omega) (by omega) ?_
        exact ih52 _ (by omega) (k2 + 1) (updI P2 (Int.toNat ((620 * ((hi.length : Nat) : Int)) + k2)) (V (Int.toNat k2))) h5 ⟨fh5_1, fh5_2, fh5_0, fh5_3, fh5_4, fh5_5, fh5_6, fh5_7, fh5_8, fh5_9, gd_2⟩ kh5 (by omega) (cpy_st2 (by omega) hq2) rfl
    refine Z.weak (L' := [(1, .int (iI 0)), (0, .ref A.m)]) (kc' := 0) (ks' := 0) [0, 1] rfl (by omega) (by omega) ?_
    exact loop52 _ 0 P h ⟨gm_1, gv_1, gpa_1, gtx_1, gma_1, gna_1, gua_1, gla_1, gle_1, gqa_1, gd_1⟩ zkeep.rf (by omega) (fun j => by rw [if_neg (by omega)]) rfl
  · refine z_iconst (pc := 9) C dX4_acts_9 ?_
    refine z_istore_n (pc := 10) (L' := [(1, .int (iI 0)), (0, .ref A.m)]) C dX4_acts_10 rfl (by rw [hnL]; decide) rfl ?_
    have loop11 : ∀ (n11 : Nat) (k : Int) (P1 : Nat → Int) (g11 : zH), (mM g11 A ((hi.length : Nat) : Int) ty si ff wd th ap nt rr rq rb wh nd up lo V P1 T M N U W) → (zkeep h g11 [A.m, A.v, A.pa, A.tx, A.ma, A.na, A.ua, A.la]) → (0 ≤ k ∧ k ≤ 4340) → (∀ j, P1 j = if j < k.toNat then P (j + 620) else P j) → ((4340 - k).toNat) = n11 → Z X g11 0 0 [(1, .int (iI k)), (0, .ref A.m)] 11 [] := by
      intro n11
      induction n11 using Nat.strongRecOn with
      | ind n11 ih11 =>
      intro k P1 g11 hMg11 hkp11 hk hq hn11
      obtain ⟨gm_6, gv_6, gpa_6, gtx_6, gma_6, gna_6, gua_6, gla_6, gle_6, gqa_6, gd_6⟩ := id hMg11
      refine z_iload_n (pc := 11) (j := 0) C dX4_acts_11 rfl rfl ?_
      refine z_sipush (pc := 12) C dX4_acts_12 (by decide) ?_
      refine z_icmp_ge (pc := 15) (tgt := 40) C dX4_acts_15 (by decide) (by omega) (by decide) (fun c15 => ?_) (fun c15 => ?_)
      · refine z_aload_n (pc := 40) (j := 1) C dX4_acts_40 rfl rfl ?_
        refine z_dup (pc := 41) C dX4_acts_41 rfl ?_
        refine z_getfield (pc := 42) (v := .int (iI ((hi.length : Nat) : Int))) C in_X4 rfl 2 (by decide) q2084 (fun _ z => z) gm_6 rfl dX4_acts_42 ?_
        refine z_iconst (pc := 45) C dX4_acts_45 ?_
        refine z_isub (pc := 46) C dX4_acts_46 ?_
        refine z_putfield (pc := 47) (fs' := [.ref A.v, .ref A.pa, .int (iI (((hi.length : Nat) : Int) - 1)), .ref A.tx, .int (iI ty), .int (iI si), .int (iI ff), .int (iI wd), .int (iI th), .ref A.le, .ref A.qa, .int (iI ap), .int (iI nt), .int (iI rr), .int (iI rq), .int (iI rb), .int (iI wh), .ref A.ma, .ref A.na, .int (iI nd), .ref A.ua, .ref A.la, .int (iI up), .int (iI lo)]) C in_X4 tyX4 tyX4_ok nmX4 rfl 2 (by decide) q2084 (fun _ z => z) rfl rfl rfl (Nat.le_of_ble_eq_true rfl) gm_6 rfl dX4_acts_47 ?_
        refine Z.nm (fun h7 eh7 => ?_)
        have kh7 : zkeep h h7 [A.m, A.v, A.pa, A.tx, A.ma, A.na, A.ua, A.la] := by rw [eh7]; exact zkeep.up hkp11 (Or.inl (by simp)) gm_6
        have fh7_0 : h7 A.m = some (true, .inr (3, [.ref A.v, .ref A.pa, .int (iI (((hi.length : Nat) : Int) - 1)), .ref A.tx, .int (iI ty), .int (iI si), .int (iI ff), .int (iI wd), .int (iI th), .ref A.le, .ref A.qa, .int (iI ap), .int (iI nt), .int (iI rr), .int (iI rq), .int (iI rb), .int (iI wh), .ref A.ma, .ref A.na, .int (iI nd), .ref A.ua, .ref A.la, .int (iI up), .int (iI lo)])) := zse eh7
        have fh7_1 : h7 A.v = some (true, .inl (.int, 620, (mA V))) := zsn eh7 gv_6 (Ne.symm (zneA gm_6 gv_6))
        have fh7_2 : h7 A.pa = some (true, .inl (.int, 4960, (mA P1))) := zsn eh7 gpa_6 (Ne.symm (zneA gm_6 gpa_6))
        have fh7_3 : h7 A.tx = some (true, .inl (.int, 200, (mA T))) := zsn eh7 gtx_6 (Ne.symm (zneA gm_6 gtx_6))
        have fh7_4 : h7 A.ma = some (true, .inl (.int, 620, (mA M))) := zsn eh7 gma_6 (Ne.symm (zneA gm_6 gma_6))
        have fh7_5 : h7 A.na = some (true, .inl (.int, 20, (mA N))) := zsn eh7 gna_6 (Ne.symm (zneA gm_6 gna_6))
        have fh7_6 : h7 A.ua = some (true, .inl (.int, 1200, (mA U))) := zsn eh7 gua_6 (Ne.symm (zneA gm_6 gua_6))
        have fh7_7 : h7 A.la = some (true, .inl (.int, 1200, (mA W))) := zsn eh7 gla_6 (Ne.symm (zneA gm_6 gla_6))
        have fh7_8 : h7 A.le = some (true, .inl (.char, 7, (mA ltF))) := zsn eh7 gle_6 (Ne.symm (zneA gm_6 gle_6))
        have fh7_9 : h7 A.qa = some (true, .inl (.char, 30, (mA qaF))) := zsn eh7 gqa_6 (Ne.symm (zneA gm_6 gqa_6))
        have hdl : (((hi.length : Nat) : Int) - 1) = (((hi.drop 1).length : Nat) : Int) := by rw [List.length_drop]; omega
        have gz8 : h7 A.m = some (true, .inr (3, [.ref A.v, .ref A.pa, .int (iI (((hi.drop 1).length : Nat) : Int)), .ref A.tx, .int (iI ty), .int (iI si), .int (iI ff), .int (iI wd), .int (iI th), .ref A.le, .ref A.qa, .int (iI ap), .int (iI nt), .int (iI rr), .int (iI rq), .int (iI rb), .int (iI wh), .ref A.ma, .ref A.na, .int (iI nd), .ref A.ua, .ref A.la, .int (iI up), .int (iI lo)])) := hdl ▸ fh7_0
        have hPs := pS.shift (P' := P1) hh hP (by omega) (fun j hj => by rw [hq j, if_pos (by omega)])
        have hxl : (hi.drop 1).length < 8 := by rw [List.length_drop]; omega
        have hxs : ∀ S ∈ hi.drop 1, shL S := fun S hS => hh S (List.mem_of_mem_drop hS)
        have hpe : hiP hi S = hi.drop 1 ++ [S] := by unfold hiP; rw [if_pos (by omega)]
        refine z_iconst (pc := 50) C dX4_acts_50 ?_
        refine z_istore_n (pc := 51) (L' := [(1, .int (iI 0)), (0, .ref A.m)]) C dX4_acts_51 rfl (by rw [hnL]; decide) rfl ?_
        have hst9 : (((hi.drop 1).length : Nat) : Int) = (((hi.drop 1).length : Nat) : Int) := rfl
        have loop52 : ∀ (n52 : Nat) (k2 : Int) (P2 : Nat → Int) (g52 : zH), (mM g52 A (((hi.drop 1).length : Nat) : Int) ty si ff wd th ap nt rr rq rb wh nd up lo V P2 T M N U W) → (zkeep h g52 [A.m, A.v, A.pa, A.tx, A.ma, A.na, A.ua, A.la]) → (0 ≤ k2 ∧ k2 ≤ 620) → (∀ j, P2 j = if 620 * (hi.drop 1).length ≤ j ∧ j < 620 * (hi.drop 1).length + k2.toNat then V (j - 620 * (hi.drop 1).length) else P1 j) → ((620 - k2).toNat) = n52 → Z X g52 0 0 [(1, .int (iI k2)), (0, .ref A.m)] 52 [] := by
          intro n52
          induction n52 using Nat.strongRecOn with
          | ind n52 ih52 =>
          intro k2 P2 g52 hMg52 hkp52 hk2 hq2 hn52
          obtain ⟨gm_9, gv_9, gpa_9, gtx_9, gma_9, gna_9, gua_9, gla_9, gle_9, gqa_9, gd_9⟩ := id hMg52
          refine z_iload_n (pc := 52) (j := 0) C dX4_acts_52 rfl rfl ?_
          refine z_sipush (pc := 53) C dX4_acts_53 (by decide) ?_
          refine z_icmp_ge (pc := 56) (tgt := 86) C dX4_acts_56 (by decide) (by omega) (by decide) (fun c56 => ?_) (fun c56 => ?_)
          · refine z_aload_n (pc := 86) (j := 1) C dX4_acts_86 rfl rfl ?_
            refine z_dup (pc := 87) C dX4_acts_87 rfl ?_
            refine z_getfield (pc := 88) (v := .int (iI (((hi.drop 1).length : Nat) : Int))) C in_X4 rfl 2 (by decide) q2084 (fun _ z => z) gm_9 rfl dX4_acts_88 ?_
            refine z_iconst (pc := 91) C dX4_acts_91 ?_
            refine z_iadd (pc := 92) C dX4_acts_92 ?_
            refine z_putfield (pc := 93) (fs' := [.ref A.v, .ref A.pa, .int (iI ((((hi.drop 1).length : Nat) : Int) + 1)), .ref A.tx, .int (iI ty), .int (iI si), .int (iI ff), .int (iI wd), .int (iI th), .ref A.le, .ref A.qa, .int (iI ap), .int (iI nt), .int (iI rr), .int (iI rq), .int (iI rb), .int (iI wh), .ref A.ma, .ref A.na, .int (iI nd), .ref A.ua, .ref A.la, .int (iI up), .int (iI lo)]) C in_X4 tyX4 tyX4_ok nmX4 rfl 2 (by decide) q2084 (fun _ z => z) rfl rfl rfl (Nat.le_of_ble_eq_true rfl) gm_9 rfl dX4_acts_93 ?_
            refine Z.nm (fun h10 eh10 => ?_)
            have kh10 : zkeep h h10 [A.m, A.v, A.pa, A.tx, A.ma, A.na, A.ua, A.la] := by rw [eh10]; exact zkeep.up hkp52 (Or.inl (by simp)) gm_9
            have fh10_0 : h10 A.m = some (true, .inr (3, [.ref A.v, .ref A.pa, .int (iI ((((hi.drop 1).length : Nat) : Int) + 1)), .ref A.tx, .int (iI ty), .int (iI si), .int (iI ff), .int (iI wd), .int (iI th), .ref A.le, .ref A.qa, .int (iI ap), .int (iI nt), .int (iI rr), .int (iI rq), .int (iI rb), .int (iI wh), .ref A.ma, .ref A.na, .int (iI nd), .ref A.ua, .ref A.la, .int (iI up), .int (iI lo)])) := zse eh10
            have fh10_1 : h10 A.v = some (true, .inl (.int, 620, (mA V))) := zsn eh10 gv_9 (Ne.symm (zneA gm_9 gv_9))
            have fh10_2 : h10 A.pa = some (true, .inl (.int, 4960, (mA P2))) := zsn eh10 gpa_9 (Ne.symm (zneA gm_9 gpa_9))
            have fh10_3 : h10 A.tx = some (true, .inl (.int, 200, (mA T))) := zsn eh10 gtx_9 (Ne.symm (zneA gm_9 gtx_9))
            have fh10_4 : h10 A.ma = some (true, .inl (.int, 620, (mA M))) := zsn eh10 gma_9 (Ne.symm (zneA gm_9 gma_9))
            have fh10_5 : h10 A.na = some (true, .inl (.int, 20, (mA N))) := zsn eh10 gna_9 (Ne.symm (zneA gm_9 gna_9))
            have fh10_6 : h10 A.ua = some (true, .inl (.int, 1200, (mA U))) := zsn eh10 gua_9 (Ne.symm (zneA gm_9 gua_9))
            have fh10_7 : h10 A.la = some (true, .inl (.int, 1200, (mA W))) := zsn eh10 gla_9 (Ne.symm (zneA gm_9 gla_9))
            have fh10_8 : h10 A.le = some (true, .inl (.char, 7, (mA ltF))) := zsn eh10 gle_9 (Ne.symm (zneA gm_9 gle_9))
            have fh10_9 : h10 A.qa = some (true, .inl (.char, 30, (mA qaF))) := zsn eh10 gqa_9 (Ne.symm (zneA gm_9 gqa_9))
            have hPn : pS P2 (hiP hi S) := by
              rw [hpe]
              exact hPs.push hxs hsl hS hxl (fun j hj => by rw [hq2 j, if_neg (by omega)]) (fun k hk => by rw [hq2 _, if_pos (by omega)]; congr 1; omega)
            have hdl2 : (((hi.drop 1).length : Nat) : Int) + 1 = (((hiP hi S).length : Nat) : Int) := by rw [hpe, List.length_append]; simp
            have gz11 : h10 A.m = some (true, .inr (3, [.ref A.v, .ref A.pa, .int (iI (((hiP hi S).length : Nat) : Int)), .ref A.tx, .int (iI ty), .int (iI si), .int (iI ff), .int (iI wd), .int (iI th), .ref A.le, .ref A.qa, .int (iI ap), .int (iI nt), .int (iI rr), .int (iI rq), .int (iI rb), .int (iI wh), .ref A.ma, .ref A.na, .int (iI nd), .ref A.ua, .ref A.la, .int (iI up), .int (iI lo)])) := hdl2 ▸ fh10_0
            exact z_return (pc := 96) C (by rw [hXp]; exact ⟨_, rfl, P2, rfl, ⟨gz11, fh10_1, fh10_2, fh10_3, fh10_4, fh10_5, fh10_6, fh10_7, fh10_8, fh10_9, gd_9⟩, hPn, kh10⟩) dX4_acts_96
          · refine z_aload_n (pc := 59) (j := 1) C dX4_acts_59 rfl rfl ?_
            refine z_getfield (pc := 60) (v := .ref A.pa) C in_X4 rfl 1 (by decide) q2083 (fun _ z => z) gm_9 rfl dX4_acts_60 ?_
            refine z_sipush (pc := 63) C dX4_acts_63 (by decide) ?_
            refine z_aload_n (pc := 66) (j := 1) C dX4_acts_66 rfl rfl ?_
            refine z_getfield (pc := 67) (v := .int (iI (((hi.drop 1).length : Nat) : Int))) C in_X4 rfl 2 (by decide) q2084 (fun _ z => z) gm_9 rfl dX4_acts_67 ?_
            refine z_imul (pc := 70) C dX4_acts_70 ?_
            refine z_iload_n (pc := 71) (j := 0) C dX4_acts_71 rfl rfl ?_
            refine z_iadd (pc := 72) C dX4_acts_72 ?_
            refine z_aload_n (pc := 73) (j := 1) C dX4_acts_73 rfl rfl ?_
            refine z_getfield (pc := 74) (v := .ref A.v) C in_X4 rfl 0 (by decide) q2082 (fun _ z => z) gm_9 rfl dX4_acts_74 ?_
            refine z_iload_n (pc := 77) (j := 0) C dX4_acts_77 rfl rfl ?_
            refine z_iaload (pc := 78) (v := .int (iI (V (Int.toNat k2)))) C gv_9 (by omega) rfl dX4_acts_78 ?_
            refine z_iastore (pc := 79) (f' := (mA (updI P2 (Int.toNat ((620 * (((hi.drop 1).length : Nat) : Int)) + k2)) (V (Int.toNat k2))))) C gpa_9 (by omega) (mA_up _ _ _) dX4_acts_79 ?_
            refine Z.nm (fun h12 eh12 => ?_)
            have kh12 : zkeep h h12 [A.m, A.v, A.pa, A.tx, A.ma, A.na, A.ua, A.la] := by rw [eh12]; exact zkeep.up hkp52 (Or.inl (by simp)) gpa_9
            have fh12_0 : h12 A.pa = some (true, .inl (.int, 4960, (mA (updI P2 (Int.toNat ((620 * (((hi.drop 1).length : Nat) : Int)) + k2)) (V (Int.toNat k2)))))) := zse eh12
            have fh12_1 : h12 A.m = some (true, .inr (3, [.ref A.v, .ref A.pa, .int (iI (((hi.drop 1).length : Nat) : Int)), .ref A.tx, .int (iI ty), .int (iI si), .int (iI ff), .int (iI wd), .int (iI th), .ref A.le, .ref A.qa, .int (iI ap), .int (iI nt), .int (iI rr), .int (iI rq), .int (iI rb), .int (iI wh), .ref A.ma, .ref A.na, .int (iI nd), .ref A.ua, .ref A.la, .int (iI up), .int (iI lo)])) := zsn eh12 gm_9 (zneA gm_9 gpa_9)
            have fh12_2 : h12 A.v = some (true, .inl (.int, 620, (mA V))) := zsn eh12 gv_9 gd_9.1
            have fh12_3 : h12 A.tx = some (true, .inl (.int, 200, (mA T))) := zsn eh12 gtx_9 (Ne.symm gd_9.2.2.2.2.2.2.1)
            have fh12_4 : h12 A.ma = some (true, .inl (.int, 620, (mA M))) := zsn eh12 gma_9 (Ne.symm gd_9.2.2.2.2.2.2.2.1)
            have fh12_5 : h12 A.na = some (true, .inl (.int, 20, (mA N))) := zsn eh12 gna_9 (Ne.symm gd_9.2.2.2.2.2.2.2.2.1)
            have fh12_6 : h12 A.ua = some (true, .inl (.int, 1200, (mA U))) := zsn eh12 gua_9 (Ne.symm gd_9.2.2.2.2.2.2.2.2.2.1)
            have fh12_7 : h12 A.la = some (true, .inl (.int, 1200, (mA W))) := zsn eh12 gla_9 (Ne.symm gd_9.2.2.2.2.2.2.2.2.2.2.1)
            have fh12_8 : h12 A.le = some (true, .inl (.char, 7, (mA ltF))) := zsn eh12 gle_9 (zneT gle_9 gpa_9 (by simp))
            have fh12_9 : h12 A.qa = some (true, .inl (.char, 30, (mA qaF))) := zsn eh12 gqa_9 (zneT gqa_9 gpa_9 (by simp))
            refine z_iinc (pc := 80) (k := 0) (L' := [(1, .int (iI (k2 + 1))), (0, .ref A.m)]) C dX4_acts_80 rfl (by rw [hnL]; decide) rfl ?_
            refine z_goto (pc := 83) (tgt := 52) C dX4_acts_83 (by decide) ?_
            refine Z.weak (L' := [(1, .int (iI (k2 + 1))), (0, .ref A.m)]) (kc' := 0) (ks' := 0) [0, 1] rfl (by omega) (by omega) ?_
            exact ih52 _ (by omega) (k2 + 1) (updI P2 (Int.toNat ((620 * (((hi.drop 1).length : Nat) : Int)) + k2)) (V (Int.toNat k2))) h12 ⟨fh12_1, fh12_2, fh12_0, fh12_3, fh12_4, fh12_5, fh12_6, fh12_7, fh12_8, fh12_9, gd_9⟩ kh12 (by omega) (cpy_st2 (by omega) hq2) rfl
        refine Z.weak (L' := [(1, .int (iI 0)), (0, .ref A.m)]) (kc' := 0) (ks' := 0) [0, 1] rfl (by omega) (by omega) ?_
        exact loop52 _ 0 P1 h7 ⟨gz8, fh7_1, fh7_2, fh7_3, fh7_4, fh7_5, fh7_6, fh7_7, fh7_8, fh7_9, gd_6⟩ kh7 (by omega) (fun j => by rw [if_neg (by omega)]) rfl
      · refine z_aload_n (pc := 18) (j := 1) C dX4_acts_18 rfl rfl ?_
        refine z_getfield (pc := 19) (v := .ref A.pa) C in_X4 rfl 1 (by decide) q2083 (fun _ z => z) gm_6 rfl dX4_acts_19 ?_
        refine z_iload_n (pc := 22) (j := 0) C dX4_acts_22 rfl rfl ?_
        refine z_aload_n (pc := 23) (j := 1) C dX4_acts_23 rfl rfl ?_
        refine z_getfield (pc := 24) (v := .ref A.pa) C in_X4 rfl 1 (by decide) q2083 (fun _ z => z) gm_6 rfl dX4_acts_24 ?_
        refine z_iload_n (pc := 27) (j := 0) C dX4_acts_27 rfl rfl ?_
        refine z_sipush (pc := 28) C dX4_acts_28 (by decide) ?_
        refine z_iadd (pc := 31) C dX4_acts_31 ?_
        refine z_iaload (pc := 32) (v := .int (iI (P1 (Int.toNat (k + 620))))) C gpa_6 (by omega) rfl dX4_acts_32 ?_
        refine z_iastore (pc := 33) (f' := (mA (updI P1 (Int.toNat k) (P1 (Int.toNat (k + 620)))))) C gpa_6 (by omega) (mA_up _ _ _) dX4_acts_33 ?_
        refine Z.nm (fun h13 eh13 => ?_)
        have kh13 : zkeep h h13 [A.m, A.v, A.pa, A.tx, A.ma, A.na, A.ua, A.la] := by rw [eh13]; exact zkeep.up hkp11 (Or.inl (by simp)) gpa_6
        have fh13_0 : h13 A.pa = some (true, .inl (.int, 4960, (mA (updI P1 (Int.toNat k) (P1 (Int.toNat (k + 620))))))) := zse eh13
        have fh13_1 : h13 A.m = some (true, .inr (3, [.ref A.v, .ref A.pa, .int (iI ((hi.length : Nat) : Int)), .ref A.tx, .int (iI ty), .int (iI si), .int (iI ff), .int (iI wd), .int (iI th), .ref A.le, .ref A.qa, .int (iI ap), .int (iI nt), .int (iI rr), .int (iI rq), .int (iI rb), .int (iI wh), .ref A.ma, .ref A.na, .int (iI nd), .ref A.ua, .ref A.la, .int (iI up), .int (iI lo)])) := zsn eh13 gm_6 (zneA gm_6 gpa_6)
        have fh13_2 : h13 A.v = some (true, .inl (.int, 620, (mA V))) := zsn eh13 gv_6 gd_6.1
        have fh13_3 : h13 A.tx = some (true, .inl (.int, 200, (mA T))) := zsn eh13 gtx_6 (Ne.symm gd_6.2.2.2.2.2.2.1)
        have fh13_4 : h13 A.ma = some (true, .inl (.int, 620, (mA M))) := zsn eh13 gma_6 (Ne.symm gd_6.2.2.2.2.2.2.2.1)
        have fh13_5 : h13 A.na = some (true, .inl (.int, 20, (mA N))) := zsn eh13 gna_6 (Ne.symm gd_6.2.2.2.2.2.2.2.2.1)
        have fh13_6 : h13 A.ua = some (true, .inl (.int, 1200, (mA U))) := zsn eh13 gua_6 (Ne.symm gd_6.2.2.2.2.2.2.2.2.2.1)
        have fh13_7 : h13 A.la = some (true, .inl (.int, 1200, (mA W))) := zsn eh13 gla_6 (Ne.symm gd_6.2.2.2.2.2.2.2.2.2.2.1)
        have fh13_8 : h13 A.le = some (true, .inl (.char, 7, (mA ltF))) := zsn eh13 gle_6 (zneT gle_6 gpa_6 (by simp))
        have fh13_9 : h13 A.qa = some (true, .inl (.char, 30, (mA qaF))) := zsn eh13 gqa_6 (zneT gqa_6 gpa_6 (by simp))
        refine z_iinc (pc := 34) (k := 0) (L' := [(1, .int (iI (k + 1))), (0, .ref A.m)]) C dX4_acts_34 rfl (by rw [hnL]; decide) rfl ?_
        refine z_goto (pc := 37) (tgt := 11) C dX4_acts_37 (by decide) ?_
        refine Z.weak (L' := [(1, .int (iI (k + 1))), (0, .ref A.m)]) (kc' := 0) (ks' := 0) [0, 1] rfl (by omega) (by omega) ?_
        exact ih11 _ (by omega) (k + 1) (updI P1 (Int.toNat k) (P1 (Int.toNat (k + 620)))) h13 ⟨fh13_1, fh13_2, fh13_0, fh13_3, fh13_4, fh13_5, fh13_6, fh13_7, fh13_8, fh13_9, gd_6⟩ kh13 (by omega) (cpy_st1 (by omega) hq) rfl
    refine Z.weak (L' := [(1, .int (iI 0)), (0, .ref A.m)]) (kc' := 0) (ks' := 0) [0, 1] rfl (by omega) (by omega) ?_
    exact loop11 _ 0 P h ⟨gm_1, gv_1, gpa_1, gtx_1, gma_1, gna_1, gua_1, gla_1, gle_1, gqa_1, gd_1⟩ zkeep.rf (by omega) (fun j => by rw [if_neg (by omega)]) rfl
set_option maxHeartbeats 4000000 in
theorem md_setKey {l : Launch} (hl : l.stackTraces = false) {Γ : zCx} {h : zH} {A : zMA} {σ : zSt} {th : Int} (hW : mdW h A σ th) {t m : Int} (ht : -6 ≤ t ∧ t ≤ 9) (hm : m = 0 ∨ m = 1) (hs : -6 ≤ sgn t m ∧ sgn t m ≤ 6)  : zMet l yX4_setKey (ws_ yX4_setKey cX4_setKey 4 (some .int)) ({ frames := 2, cells := 0, slots := 0, locals := 43 }) Γ h [.ref A.m, .int (iI t), .int (iI m)] (zrt (fun w h' => w = some (.int (iI (sgn σ.sh.t σ.sh.m))) ∧ mdW h' A (σ.tx, σ.si, σ.fl, σ.wd, (σ.sh.ls, σ.sh.cs, t, m), hiP σ.hi σ.sh) 0 ∧ zkeep h h' [A.m, A.v, A.pa, A.tx, A.ma, A.na, A.ua, A.la])) 0 0 := by
  refine zMet.of (cc := cX4_setKey) hl (plainFor_of_name (by decide +kernel)) (Nat.le_of_ble_eq_true rfl) ?_
  intro X hXl hXΓ hXp C hnm hnL
  have C : zC X cX4_setKey RX4 (some .int) 2 43 [] := C
  have hnL : X.2.1.2.2.2.2 = 4 := hnL
  subst hXl hXΓ
  show Z X h 0 0 [(0, .ref A.m), (1, .int (iI t)), (2, .int (iI m))] 0 []
  obtain ⟨ap, nt, rr, rq, rb, wh, nd, up, lo, V, P, T, M, N, U, W, hM, hS, hP, htq, hR, hsl, hslh⟩ := id hW
  obtain ⟨rsi, rff, rwd, rtl, rtx, rsh, rhi, rhl⟩ := id hR
  obtain ⟨rcl, rcr, rll, rlt, rkt, rkm, rks⟩ := id rsh
  obtain ⟨hsl1, hsl2, hsl3⟩ := id hsl
  have hTr := rtx
  have hTl := rtl
  obtain ⟨gm_1, gv_1, gpa_1, gtx_1, gma_1, gna_1, gua_1, gla_1, gle_1, gqa_1, gd_1⟩ := id hM
  refine z_aload_n (pc := 0) (j := 0) C dX4_setKey_0 rfl rfl ?_
  refine z_iconst (pc := 1) C dX4_setKey_1 ?_
  refine z_putfield (pc := 2) (fs' := [.ref A.v, .ref A.pa, .int (iI ((σ.hi.length : Nat) : Int)), .ref A.tx, .int (iI ((σ.tx.length : Nat) : Int)), .int (iI σ.si), .int (iI σ.fl), .int (iI σ.wd), .int (iI 0), .ref A.le, .ref A.qa, .int (iI ap), .int (iI nt), .int (iI rr), .int (iI rq), .int (iI rb), .int (iI wh), .ref A.ma, .ref A.na, .int (iI nd), .ref A.ua, .ref A.la, .int (iI up), .int (iI lo)]) C in_X4 tyX4 tyX4_ok nmX4 rfl 8 (by decide) q2090 (fun _ z => z) rfl rfl rfl (Nat.le_of_ble_eq_true rfl) gm_1 rfl dX4_setKey_2 ?_
  refine Z.nm (fun h2 eh2 => ?_)
  have kh2 : zkeep h h2 [A.m, A.v, A.pa, A.tx, A.ma, A.na, A.ua, A.la] := by rw [eh2]; exact zkeep.up zkeep.rf (Or.inl (by simp)) gm_1
  have fh2_0 : h2 A.m = some (true, .inr (3, [.ref A.v, .ref A.pa, .int (iI ((σ.hi.length : Nat) : Int)), .ref A.tx, .int (iI ((σ.tx.length : Nat) : Int)), .int (iI σ.si), .int (iI σ.fl), .int (iI σ.wd), .int (iI 0), .ref A.le, .ref A.qa, .int (iI ap), .int (iI nt), .int (iI rr), .int (iI rq), .int (iI rb), .int (iI wh), .ref A.ma, .ref A.na, .int (iI nd), .ref A.ua, .ref A.la, .int (iI up), .int (iI lo)])) := zse eh2
  have fh2_1 : h2 A.v = some (true, .inl (.int, 620, (mA V))) := zsn eh2 gv_1 (Ne.symm (zneA gm_1 gv_1))
  have fh2_2 : h2 A.pa = some (true, .inl (.int, 4960, (mA P))) := zsn eh2 gpa_1 (Ne.symm (zneA gm_1 gpa_1))
  have fh2_3 : h2 A.tx = some (true, .inl (.int, 200, (mA T))) := zsn eh2 gtx_1 (Ne.symm (zneA gm_1 gtx_1))
  have fh2_4 : h2 A.ma = some (true, .inl (.int, 620, (mA M))) := zsn eh2 gma_1 (Ne.symm (zneA gm_1 gma_1))
  have fh2_5 : h2 A.na = some (true, .inl (.int, 20, (mA N))) := zsn eh2 gna_1 (Ne.symm (zneA gm_1 gna_1))
  have fh2_6 : h2 A.ua = some (true, .inl (.int, 1200, (mA U))) := zsn eh2 gua_1 (Ne.symm (zneA gm_1 gua_1))
  have fh2_7 : h2 A.la = some (true, .inl (.int, 1200, (mA W))) := zsn eh2 gla_1 (Ne.symm (zneA gm_1 gla_1))
  refine z_iload_n (pc := 5) (j := 1) C dX4_setKey_5 rfl rfl ?_
  refine z_iload_n (pc := 6) (j := 2) C dX4_setKey_6 rfl rfl ?_
  refine z_callS (pc := 7) (n := 2) (kc' := 0) (ks' := 0) C (m_isKey C.t (p := t) (b := m) (by omega) (by omega)) (lw_S q2385 q2386 q74 q2387) (by decide +kernel) ⟨by decide, by decide⟩ rfl rfl (Nat.le_of_ble_eq_true rfl) dX4_setKey_7 (by omega) (by omega) (zpk (st' := [.int (iI (if -6 ≤ sgn t m ∧ sgn t m ≤ 6 then 1 else 0))]) rfl ?_) zrx
  rw [show ((if -6 ≤ sgn t m ∧ sgn t m ≤ 6 then 1 else 0) : Int) = 1 from if_pos (by omega)]
  show Z X h2 0 0 [(0, .ref A.m), (1, .int (iI t)), (2, .int (iI m))] 10 [.int (iI 1)]
  refine z_if_ne (pc := 10) (tgt := 19) C dX4_setKey_10 (by decide) (by decide) (fun _ => ?_) (fun z => absurd z (by decide))
  refine z_aload_n (pc := 19) (j := 0) C dX4_setKey_19 rfl rfl ?_
  refine z_callV (pc := 20) (n := 0) (kc' := 0) (ks' := 0) C (m_acts C.t ⟨fh2_0, fh2_1, fh2_2, fh2_3, fh2_4, fh2_5, fh2_6, fh2_7, (kh2.n gle_1 (List.not_mem_cons_of_ne_of_not_mem (Ne.symm (zneA gm_1 gle_1)) (List.not_mem_cons_of_ne_of_not_mem (zneT gle_1 gv_1 (by simp)) (List.not_mem_cons_of_ne_of_not_mem (zneT gle_1 gpa_1 (by simp)) (List.not_mem_cons_of_ne_of_not_mem (zneT gle_1 gtx_1 (by simp)) (List.not_mem_cons_of_ne_of_not_mem (zneT gle_1 gma_1 (by simp)) (List.not_mem_cons_of_ne_of_not_mem (zneT gle_1 gna_1 (by simp)) (List.not_mem_cons_of_ne_of_not_mem (zneT gle_1 gua_1 (by simp)) (List.not_mem_cons_of_ne_of_not_mem (zneT gle_1 gla_1 (by simp)) List.not_mem_nil))))))))), (kh2.n gqa_1 (List.not_mem_cons_of_ne_of_not_mem (Ne.symm (zneA gm_1 gqa_1)) (List.not_mem_cons_of_ne_of_not_mem (zneT gqa_1 gv_1 (by simp)) (List.not_mem_cons_of_ne_of_not_mem (zneT gqa_1 gpa_1 (by simp)) (List.not_mem_cons_of_ne_of_not_mem (zneT gqa_1 gtx_1 (by simp)) (List.not_mem_cons_of_ne_of_not_mem (zneT gqa_1 gma_1 (by simp)) (List.not_mem_cons_of_ne_of_not_mem (zneT gqa_1 gna_1 (by simp)) (List.not_mem_cons_of_ne_of_not_mem (zneT gqa_1 gua_1 (by simp)) (List.not_mem_cons_of_ne_of_not_mem (zneT gqa_1 gla_1 (by simp)) List.not_mem_nil))))))))), gd_1⟩ hS hsl hP hslh (by omega)) (lw_V q2206 q2208 qs34 q74 q2209) (by decide +kernel) ⟨by decide, by decide⟩ fh2_0 rfl rfl rfl (Nat.le_of_ble_eq_true rfl) dX4_setKey_20 (by omega) (by omega) (zrk fun w h3 hp => ?_) zrx
  obtain ⟨P_5, rfl, hM_5, hPn_5, k4⟩ := hp
  have kh3 : zkeep h h3 [A.m, A.v, A.pa, A.tx, A.ma, A.na, A.ua, A.la] := zkeep.loc kh2 k4 (fun q hq => Or.inl (Or.inr hq))
  have hM_5 : mM h3 A (((hiP σ.hi σ.sh).length : Nat) : Int) ((σ.tx.length : Nat) : Int) σ.si σ.fl σ.wd 0 ap nt rr rq rb wh nd up lo V P_5 T M N U W := hM_5
  obtain ⟨gm_6, gv_6, gpa_6, gtx_6, gma_6, gna_6, gua_6, gla_6, gle_6, gqa_6, gd_6⟩ := id hM_5
  have hhl8 : (hiP σ.hi σ.sh).length ≤ 8 := hiP_l rhl
  have hslh2 : ∀ S ∈ hiP σ.hi σ.sh, shL S := hiP_m hslh hsl
  have rhi2 : ∀ S ∈ hiP σ.hi σ.sh, shR S := hiP_m rhi rsh
  show Z X h3 0 0 [(0, .ref A.m), (1, .int (iI t)), (2, .int (iI m))] 23 []
  refine z_aload_n (pc := 23) (j := 0) C dX4_setKey_23 rfl rfl ?_
  refine z_callV (pc := 24) (n := 0) (kc' := 0) (ks' := 0) C (m_sig C.t ⟨gm_6, gv_6, gpa_6, gtx_6, gma_6, gna_6, gua_6, gla_6, gle_6, gqa_6, gd_6⟩ hS rkm) (lw_V q2365 q2367 qs51 q74 q2368) (by decide +kernel) ⟨by decide, by decide⟩ gm_6 rfl rfl rfl (Nat.le_of_ble_eq_true rfl) dX4_setKey_24 (by omega) (by omega) (zpk (st' := [.int (iI (sgn σ.sh.t σ.sh.m))]) rfl ?_) zrx
  refine z_istore_n (pc := 27) (L' := [(3, .int (iI (sgn σ.sh.t σ.sh.m))), (0, .ref A.m), (1, .int (iI t)), (2, .int (iI m))]) C dX4_setKey_27 rfl (by rw [hnL]; decide) rfl ?_
  refine z_aload_n (pc := 28) (j := 1) C dX4_setKey_28 rfl rfl ?_
  refine z_getfield (pc := 29) (v := .ref A.v) C in_X4 rfl 0 (by decide) q2082 (fun _ z => z) gm_6 rfl dX4_setKey_29 ?_
  refine z_iconst (pc := 32) C dX4_setKey_32 ?_
  refine z_iload_n (pc := 33) (j := 2) C dX4_setKey_33 rfl rfl ?_
  refine z_iastore (pc := 34) (f' := (mA (updI V 2 t))) C gv_6 (by omega) (mA_up _ _ _) dX4_setKey_34 ?_
  refine Z.nm (fun h7 eh7 => ?_)
  have kh7 : zkeep h h7 [A.m, A.v, A.pa, A.tx, A.ma, A.na, A.ua, A.la] := by rw [eh7]; exact zkeep.up kh3 (Or.inl (by simp)) gv_6
  have fh7_0 : h7 A.v = some (true, .inl (.int, 620, (mA (updI V 2 t)))) := zse eh7
  have fh7_1 : h7 A.m = some (true, .inr (3, [.ref A.v, .ref A.pa, .int (iI (((hiP σ.hi σ.sh).length : Nat) : Int)), .ref A.tx, .int (iI ((σ.tx.length : Nat) : Int)), .int (iI σ.si), .int (iI σ.fl), .int (iI σ.wd), .int (iI 0), .ref A.le, .ref A.qa, .int (iI ap), .int (iI nt), .int (iI rr), .int (iI rq), .int (iI rb), .int (iI wh), .ref A.ma, .ref A.na, .int (iI nd), .ref A.ua, .ref A.la, .int (iI up), .int (iI lo)])) := zsn eh7 gm_6 (zneA gm_6 gv_6)
  have fh7_2 : h7 A.pa = some (true, .inl (.int, 4960, (mA P_5))) := zsn eh7 gpa_6 (Ne.symm gd_6.1)
  have fh7_3 : h7 A.tx = some (true, .inl (.int, 200, (mA T))) := zsn eh7 gtx_6 (Ne.symm gd_6.2.1)
  have fh7_4 : h7 A.ma = some (true, .inl (.int, 620, (mA M))) := zsn eh7 gma_6 (Ne.symm gd_6.2.2.1)
  have fh7_5 : h7 A.na = some (true, .inl (.int, 20, (mA N))) := zsn eh7 gna_6 (Ne.symm gd_6.2.2.2.1)
  have fh7_6 : h7 A.ua = some (true, .inl (.int, 1200, (mA U))) := zsn eh7 gua_6 (Ne.symm gd_6.2.2.2.2.1)
  have fh7_7 : h7 A.la = some (true, .inl (.int, 1200, (mA W))) := zsn eh7 gla_6 (Ne.symm gd_6.2.2.2.2.2.1)
  have fh7_8 : h7 A.le = some (true, .inl (.char, 7, (mA ltF))) := zsn eh7 gle_6 (zneT gle_6 gv_6 (by simp))
  have fh7_9 : h7 A.qa = some (true, .inl (.char, 30, (mA qaF))) := zsn eh7 gqa_6 (zneT gqa_6 gv_6 (by simp))
  refine z_aload_n (pc := 35) (j := 1) C dX4_setKey_35 rfl rfl ?_
  refine z_getfield (pc := 36) (v := .ref A.v) C in_X4 rfl 0 (by decide) q2082 (fun _ z => z) fh7_1 rfl dX4_setKey_36 ?_
  refine z_iconst (pc := 39) C dX4_setKey_39 ?_
  refine z_iload_n (pc := 40) (j := 3) C dX4_setKey_40 rfl rfl ?_
  refine z_if_eq (pc := 41) (tgt := 48) C dX4_setKey_41 (by decide) (by omega) (fun c41 => ?_) (fun c41 => ?_)
  · refine z_iconst (pc := 48) C dX4_setKey_48 ?_
    refine z_iastore (pc := 49) (f' := (mA (updI (updI V 2 t) 3 0))) C fh7_0 (by omega) (mA_up _ _ _) dX4_setKey_49 ?_
    refine Z.nm (fun h8 eh8 => ?_)
    have kh8 : zkeep h h8 [A.m, A.v, A.pa, A.tx, A.ma, A.na, A.ua, A.la] := by rw [eh8]; exact zkeep.up kh7 (Or.inl (by simp)) fh7_0
    have fh8_0 : h8 A.v = some (true, .inl (.int, 620, (mA (updI (updI V 2 t) 3 0)))) := zse eh8
    have fh8_1 : h8 A.m = some (true, .inr (3, [.ref A.v, .ref A.pa, .int (iI (((hiP σ.hi σ.sh).length : Nat) : Int)), .ref A.tx, .int (iI ((σ.tx.length : Nat) : Int)), .int (iI σ.si), .int (iI σ.fl), .int (iI σ.wd), .int (iI 0), .ref A.le, .ref A.qa, .int (iI ap), .int (iI nt), .int (iI rr), .int (iI rq), .int (iI rb), .int (iI wh), .ref A.ma, .ref A.na, .int (iI nd), .ref A.ua, .ref A.la, .int (iI up), .int (iI lo)])) := zsn eh8 fh7_1 (zneA fh7_1 fh7_0)
    have fh8_2 : h8 A.pa = some (true, .inl (.int, 4960, (mA P_5))) := zsn eh8 fh7_2 (Ne.symm gd_6.1)
    have fh8_3 : h8 A.tx = some (true, .inl (.int, 200, (mA T))) := zsn eh8 fh7_3 (Ne.symm gd_6.2.1)
    have fh8_4 : h8 A.ma = some (true, .inl (.int, 620, (mA M))) := zsn eh8 fh7_4 (Ne.symm gd_6.2.2.1)
    have fh8_5 : h8 A.na = some (true, .inl (.int, 20, (mA N))) := zsn eh8 fh7_5 (Ne.symm gd_6.2.2.2.1)
    have fh8_6 : h8 A.ua = some (true, .inl (.int, 1200, (mA U))) := zsn eh8 fh7_6 (Ne.symm gd_6.2.2.2.2.1)
    have fh8_7 : h8 A.la = some (true, .inl (.int, 1200, (mA W))) := zsn eh8 fh7_7 (Ne.symm gd_6.2.2.2.2.2.1)
    have fh8_8 : h8 A.le = some (true, .inl (.char, 7, (mA ltF))) := zsn eh8 fh7_8 (zneT fh7_8 fh7_0 (by simp))
    have fh8_9 : h8 A.qa = some (true, .inl (.char, 30, (mA qaF))) := zsn eh8 fh7_9 (zneT fh7_9 fh7_0 (by simp))
    refine z_iload_n (pc := 50) (j := 0) C dX4_setKey_50 rfl rfl ?_
    have hSn : vS (updI (updI V 2 t) 3 0) (σ.sh.ls, σ.sh.cs, t, m) := by
      have hz := vS.key (t := t) (m := m) hsl hS
      have e := congrArg (updI (updI V 2 t) 3) (show m = (0 : Int) by omega)
      rw [e] at hz
      exact hz
    exact z_ireturn (pc := 51) C (by rw [hXp]; exact ⟨_, rfl, rfl, ⟨ap, nt, rr, rq, rb, wh, nd, up, lo, (updI (updI V 2 t) 3 0), P_5, T, M, N, U, W, ⟨fh8_1, fh8_0, fh8_2, fh8_3, fh8_4, fh8_5, fh8_6, fh8_7, fh8_8, fh8_9, gd_6⟩, hSn, hPn_5, htq, ⟨rsi, rff, rwd, rtl, rtx, ⟨rcl, rcr, rll, rlt, (show -20 ≤ t ∧ t ≤ 20 by omega), hm, hs⟩, rhi2, hhl8⟩, hsl, hslh2⟩, kh8⟩) dX4_setKey_51
  · refine z_iconst (pc := 44) C dX4_setKey_44 ?_
    refine z_goto (pc := 45) (tgt := 49) C dX4_setKey_45 (by decide) ?_
    refine z_iastore (pc := 49) (f' := (mA (updI (updI V 2 t) 3 1))) C fh7_0 (by omega) (mA_up _ _ _) dX4_setKey_49 ?_
    refine Z.nm (fun h9 eh9 => ?_)
    have kh9 : zkeep h h9 [A.m, A.v, A.pa, A.tx, A.ma, A.na, A.ua, A.la] := by rw [eh9]; exact zkeep.up kh7 (Or.inl (by simp)) fh7_0
    have fh9_0 : h9 A.v = some (true, .inl (.int, 620, (mA (updI (updI V 2 t) 3 1)))) := zse eh9
    have fh9_1 : h9 A.m = some (true, .inr (3, [.ref A.v, .ref A.pa, .int (iI (((hiP σ.hi σ.sh).length : Nat) : Int)), .ref A.tx, .int (iI ((σ.tx.length : Nat) : Int)), .int (iI σ.si), .int (iI σ.fl), .int (iI σ.wd), .int (iI 0), .ref A.le, .ref A.qa, .int (iI ap), .int (iI nt), .int (iI rr), .int (iI rq), .int (iI rb), .int (iI wh), .ref A.ma, .ref A.na, .int (iI nd), .ref A.ua, .ref A.la, .int (iI up), .int (iI lo)])) := zsn eh9 fh7_1 (zneA fh7_1 fh7_0)
    have fh9_2 : h9 A.pa = some (true, .inl (.int, 4960, (mA P_5))) := zsn eh9 fh7_2 (Ne.symm gd_6.1)
    have fh9_3 : h9 A.tx = some (true, .inl (.int, 200, (mA T))) := zsn eh9 fh7_3 (Ne.symm gd_6.2.1)
    have fh9_4 : h9 A.ma = some (true, .inl (.int, 620, (mA M))) := zsn eh9 fh7_4 (Ne.symm gd_6.2.2.1)
    have fh9_5 : h9 A.na = some (true, .inl (.int, 20, (mA N))) := zsn eh9 fh7_5 (Ne.symm gd_6.2.2.2.1)
    have fh9_6 : h9 A.ua = some (true, .inl (.int, 1200, (mA U))) := zsn eh9 fh7_6 (Ne.symm gd_6.2.2.2.2.1)
    have fh9_7 : h9 A.la = some (true, .inl (.int, 1200, (mA W))) := zsn eh9 fh7_7 (Ne.symm gd_6.2.2.2.2.2.1)
    have fh9_8 : h9 A.le = some (true, .inl (.char, 7, (mA ltF))) := zsn eh9 fh7_8 (zneT fh7_8 fh7_0 (by simp))
    have fh9_9 : h9 A.qa = some (true, .inl (.char, 30, (mA qaF))) := zsn eh9 fh7_9 (zneT fh7_9 fh7_0 (by simp))
    refine z_iload_n (pc := 50) (j := 0) C dX4_setKey_50 rfl rfl ?_
    have hSn : vS (updI (updI V 2 t) 3 1) (σ.sh.ls, σ.sh.cs, t, m) := by
      have hz := vS.key (t := t) (m := m) hsl hS
      have e := congrArg (updI (updI V 2 t) 3) (show m = (1 : Int) by omega)
      rw [e] at hz
      exact hz
    exact z_ireturn (pc := 51) C (by rw [hXp]; exact ⟨_, rfl, rfl, ⟨ap, nt, rr, rq, rb, wh, nd, up, lo, (updI (updI V 2 t) 3 1), P_5, T, M, N, U, W, ⟨fh9_1, fh9_0, fh9_2, fh9_3, fh9_4, fh9_5, fh9_6, fh9_7, fh9_8, fh9_9, gd_6⟩, hSn, hPn_5, htq, ⟨rsi, rff, rwd, rtl, rtx, ⟨rcl, rcr, rll, rlt, (show -20 ≤ t ∧ t ≤ 20 by omega), hm, hs⟩, rhi2, hhl8⟩, hsl, hslh2⟩, kh9⟩) dX4_setKey_51
set_option maxHeartbeats 4000000 in
theorem md_setKey_b {l : Launch} (hl : l.stackTraces = false) {Γ : zCx} {h : zH} {A : zMA} {σ : zSt} {th : Int} (hW : mdW h A σ th) {t m : Int} (hr : -2147483648 ≤ t ∧ t ≤ 2147483647) (hm : m = 0 ∨ m = 1) (hs : ¬ (-6 ≤ sgn t m ∧ sgn t m ≤ 6))  : zMet l yX4_setKey (ws_ yX4_setKey cX4_setKey 4 (some .int)) ({ frames := 2, cells := 0, slots := 0, locals := 43 }) Γ h [.ref A.m, .int (iI t), .int (iI m)] (zrt (fun w h' => w = some (.int (iI (0))) ∧ mdW h' A σ 1 ∧ zkeep h h' [A.m, A.v, A.pa, A.tx, A.ma, A.na, A.ua, A.la])) 0 0 := by
  refine zMet.of (cc := cX4_setKey) hl (plainFor_of_name (by decide +kernel)) (Nat.le_of_ble_eq_true rfl) ?_
  intro X hXl hXΓ hXp C hnm hnL
  have C : zC X cX4_setKey RX4 (some .int) 2 43 [] := C
  have hnL : X.2.1.2.2.2.2 = 4 := hnL
  subst hXl hXΓ
  show Z X h 0 0 [(0, .ref A.m), (1, .int (iI t)), (2, .int (iI m))] 0 []
  obtain ⟨ap, nt, rr, rq, rb, wh, nd, up, lo, V, P, T, M, N, U, W, hM, hS, hP, htq, hR, hsl, hslh⟩ := id hW
  obtain ⟨rsi, rff, rwd, rtl, rtx, rsh, rhi, rhl⟩ := id hR
  obtain ⟨rcl, rcr, rll, rlt, rkt, rkm, rks⟩ := id rsh
  obtain ⟨hsl1, hsl2, hsl3⟩ := id hsl
  have hTr := rtx
  have hTl := rtl
  obtain ⟨gm_1, gv_1, gpa_1, gtx_1, gma_1, gna_1, gua_1, gla_1, gle_1, gqa_1, gd_1⟩ := id hM
  refine z_aload_n (pc := 0) (j := 0) C dX4_setKey_0 rfl rfl ?_
  refine z_iconst (pc := 1) C dX4_setKey_1 ?_
  refine z_putfield (pc := 2) (fs' := [.ref A.v, .ref A.pa, .int (iI ((σ.hi.length : Nat) : Int)), .ref A.tx, .int (iI ((σ.tx.length : Nat) : Int)), .int (iI σ.si), .int (iI σ.fl), .int (iI σ.wd), .int (iI 0), .ref A.le, .ref A.qa, .int (iI ap), .int (iI nt), .int (iI rr), .int (iI rq), .int (iI rb), .int (iI wh), .ref A.ma, .ref A.na, .int (iI nd), .ref A.ua, .ref A.la, .int (iI up), .int (iI lo)]) C in_X4 tyX4 tyX4_ok nmX4 rfl 8 (by decide) q2090 (fun _ z => z) rfl rfl rfl (Nat.le_of_ble_eq_true rfl) gm_1 rfl dX4_setKey_2 ?_
  refine Z.nm (fun h2 eh2 => ?_)
  have kh2 : zkeep h h2 [A.m, A.v, A.pa, A.tx, A.ma, A.na, A.ua, A.la] := by rw [eh2]; exact zkeep.up zkeep.rf (Or.inl (by simp)) gm_1
  have fh2_0 : h2 A.m = some (true, .inr (3, [.ref A.v, .ref A.pa, .int (iI ((σ.hi.length : Nat) : Int)), .ref A.tx, .int (iI ((σ.tx.length : Nat) : Int)), .int (iI σ.si), .int (iI σ.fl), .int (iI σ.wd), .int (iI 0), .ref A.le, .ref A.qa, .int (iI ap), .int (iI nt), .int (iI rr), .int (iI rq), .int (iI rb), .int (iI wh), .ref A.ma, .ref A.na, .int (iI nd), .ref A.ua, .ref A.la, .int (iI up), .int (iI lo)])) := zse eh2
  have fh2_1 : h2 A.v = some (true, .inl (.int, 620, (mA V))) := zsn eh2 gv_1 (Ne.symm (zneA gm_1 gv_1))
  have fh2_2 : h2 A.pa = some (true, .inl (.int, 4960, (mA P))) := zsn eh2 gpa_1 (Ne.symm (zneA gm_1 gpa_1))
  have fh2_3 : h2 A.tx = some (true, .inl (.int, 200, (mA T))) := zsn eh2 gtx_1 (Ne.symm (zneA gm_1 gtx_1))
  have fh2_4 : h2 A.ma = some (true, .inl (.int, 620, (mA M))) := zsn eh2 gma_1 (Ne.symm (zneA gm_1 gma_1))
  have fh2_5 : h2 A.na = some (true, .inl (.int, 20, (mA N))) := zsn eh2 gna_1 (Ne.symm (zneA gm_1 gna_1))
  have fh2_6 : h2 A.ua = some (true, .inl (.int, 1200, (mA U))) := zsn eh2 gua_1 (Ne.symm (zneA gm_1 gua_1))
  have fh2_7 : h2 A.la = some (true, .inl (.int, 1200, (mA W))) := zsn eh2 gla_1 (Ne.symm (zneA gm_1 gla_1))
  refine z_iload_n (pc := 5) (j := 1) C dX4_setKey_5 rfl rfl ?_
  refine z_iload_n (pc := 6) (j := 2) C dX4_setKey_6 rfl rfl ?_
  refine z_callS (pc := 7) (n := 2) (kc' := 0) (ks' := 0) C (m_isKey C.t (p := t) (b := m) (by omega) (by omega)) (lw_S q2385 q2386 q74 q2387) (by decide +kernel) ⟨by decide, by decide⟩ rfl rfl (Nat.le_of_ble_eq_true rfl) dX4_setKey_7 (by omega) (by omega) (zpk (st' := [.int (iI (if -6 ≤ sgn t m ∧ sgn t m ≤ 6 then 1 else 0))]) rfl ?_) zrx
  rw [show ((if -6 ≤ sgn t m ∧ sgn t m ≤ 6 then 1 else 0) : Int) = 0 from if_neg (by omega)]
  show Z X h2 0 0 [(0, .ref A.m), (1, .int (iI t)), (2, .int (iI m))] 10 [.int (iI 0)]
  refine z_if_ne (pc := 10) (tgt := 19) C dX4_setKey_10 (by decide) (by decide) (fun z => absurd z (by decide)) (fun _ => ?_)
  refine z_aload_n (pc := 13) (j := 0) C dX4_setKey_13 rfl rfl ?_
  refine z_iconst (pc := 14) C dX4_setKey_14 ?_
  refine z_callV (pc := 15) (n := 1) (kc' := 0) (ks' := 0) C (m_fails C.t ⟨fh2_0, fh2_1, fh2_2, fh2_3, fh2_4, fh2_5, fh2_6, fh2_7, (kh2.n gle_1 (List.not_mem_cons_of_ne_of_not_mem (Ne.symm (zneA gm_1 gle_1)) (List.not_mem_cons_of_ne_of_not_mem (zneT gle_1 gv_1 (by simp)) (List.not_mem_cons_of_ne_of_not_mem (zneT gle_1 gpa_1 (by simp)) (List.not_mem_cons_of_ne_of_not_mem (zneT gle_1 gtx_1 (by simp)) (List.not_mem_cons_of_ne_of_not_mem (zneT gle_1 gma_1 (by simp)) (List.not_mem_cons_of_ne_of_not_mem (zneT gle_1 gna_1 (by simp)) (List.not_mem_cons_of_ne_of_not_mem (zneT gle_1 gua_1 (by simp)) (List.not_mem_cons_of_ne_of_not_mem (zneT gle_1 gla_1 (by simp)) List.not_mem_nil))))))))), (kh2.n gqa_1 (List.not_mem_cons_of_ne_of_not_mem (Ne.symm (zneA gm_1 gqa_1)) (List.not_mem_cons_of_ne_of_not_mem (zneT gqa_1 gv_1 (by simp)) (List.not_mem_cons_of_ne_of_not_mem (zneT gqa_1 gpa_1 (by simp)) (List.not_mem_cons_of_ne_of_not_mem (zneT gqa_1 gtx_1 (by simp)) (List.not_mem_cons_of_ne_of_not_mem (zneT gqa_1 gma_1 (by simp)) (List.not_mem_cons_of_ne_of_not_mem (zneT gqa_1 gna_1 (by simp)) (List.not_mem_cons_of_ne_of_not_mem (zneT gqa_1 gua_1 (by simp)) (List.not_mem_cons_of_ne_of_not_mem (zneT gqa_1 gla_1 (by simp)) List.not_mem_nil))))))))), gd_1⟩ (x := 1)) (lw_V q2167 q2169 qs27 q74 q2170) (by decide +kernel) ⟨by decide, by decide⟩ fh2_0 rfl rfl rfl (Nat.le_of_ble_eq_true rfl) dX4_setKey_15 (by omega) (by omega) (zrk fun w h3 hp => ?_) zrx
  obtain ⟨rfl, hM_5, k4⟩ := hp
  have kh3 : zkeep h h3 [A.m, A.v, A.pa, A.tx, A.ma, A.na, A.ua, A.la] := zkeep.loc kh2 k4 (fun q hq => Or.inl (Or.inr hq))
  have hM_5 : mM h3 A ((σ.hi.length : Nat) : Int) ((σ.tx.length : Nat) : Int) σ.si σ.fl σ.wd 1 ap nt rr rq rb wh nd up lo V P T M N U W := hM_5
  obtain ⟨gm_6, gv_6, gpa_6, gtx_6, gma_6, gna_6, gua_6, gla_6, gle_6, gqa_6, gd_6⟩ := id hM_5
  show Z X h3 0 0 [(0, .ref A.m), (1, .int (iI t)), (2, .int (iI m))] 18 [.int (iI 0)]
  exact z_ireturn (pc := 18) C (by rw [hXp]; exact ⟨_, rfl, rfl, ⟨ap, nt, rr, rq, rb, wh, nd, up, lo, V, P, T, M, N, U, W, ⟨gm_6, gv_6, gpa_6, gtx_6, gma_6, gna_6, gua_6, gla_6, gle_6, gqa_6, gd_6⟩, hS, hP, htq, hR, hsl, hslh⟩, kh3⟩) dX4_setKey_18
set_option maxHeartbeats 4000000 in
theorem md_undo {l : Launch} (hl : l.stackTraces = false) {Γ : zCx} {h : zH} {A : zMA} {σ : zSt} {th : Int} (hW : mdW h A σ th) {hi2 : List zSh} {S0 : zSh} (q2 : σ.hi = hi2 ++ [S0])  : zMet l yX4_undo (ws_ yX4_undo cX4_undo 2 (some .int)) ({ frames := 0, cells := 0, slots := 0, locals := 0 }) Γ h [.ref A.m] (zrt (fun w h' => w = some (.int (iI (((hi2.length : Nat) : Int)))) ∧ mdW h' A (σ.tx, σ.si, σ.fl, σ.wd, S0, hi2) 0 ∧ zkeep h h' [A.m, A.v, A.pa, A.tx, A.ma, A.na, A.ua, A.la])) 0 0 := by
  refine zMet.of (cc := cX4_undo) hl (plainFor_of_name (by decide +kernel)) (Nat.le_of_ble_eq_true rfl) ?_
  intro X hXl hXΓ hXp C hnm hnL
  have C : zC X cX4_undo RX4 (some .int) 0 0 [] := C
  have hnL : X.2.1.2.2.2.2 = 2 := hnL
  subst hXl hXΓ
  show Z X h 0 0 [(0, .ref A.m)] 0 []
  obtain ⟨ap, nt, rr, rq, rb, wh, nd, up, lo, V, P, T, M, N, U, W, hM, hS, hP, htq, hR, hsl, hslh⟩ := id hW
  obtain ⟨rsi, rff, rwd, rtl, rtx, rsh, rhi, rhl⟩ := id hR
  obtain ⟨rcl, rcr, rll, rlt, rkt, rkm, rks⟩ := id rsh
  obtain ⟨hsl1, hsl2, hsl3⟩ := id hsl
  have hTr := rtx
  have hTl := rtl
  obtain ⟨gm_1, gv_1, gpa_1, gtx_1, gma_1, gna_1, gua_1, gla_1, gle_1, gqa_1, gd_1⟩ := id hM
  have hhl9 : ((σ.hi.length : Nat) : Int) - 1 = ((hi2.length : Nat) : Int) := by rw [q2]; simp
  have hhl7 : σ.hi.length = hi2.length + 1 := by rw [q2]; simp
  have hS0 : σ.hi[hi2.length]? = some S0 := by rw [q2]; simp
  have hv0 := hP _ _ hS0
  have hs0 := hslh S0 (List.mem_of_getElem? hS0)
  have hr0 := rhi S0 (List.mem_of_getElem? hS0)
  refine z_aload_n (pc := 0) (j := 0) C dX4_undo_0 rfl rfl ?_
  refine z_iconst (pc := 1) C dX4_undo_1 ?_
  refine z_putfield (pc := 2) (fs' := [.ref A.v, .ref A.pa, .int (iI ((σ.hi.length : Nat) : Int)), .ref A.tx, .int (iI ((σ.tx.length : Nat) : Int)), .int (iI σ.si), .int (iI σ.fl), .int (iI σ.wd), .int (iI 0), .ref A.le, .ref A.qa, .int (iI ap), .int (iI nt), .int (iI rr), .int (iI rq), .int (iI rb), .int (iI wh), .ref A.ma, .ref A.na, .int (iI nd), .ref A.ua, .ref A.la, .int (iI up), .int (iI lo)]) C in_X4 tyX4 tyX4_ok nmX4 rfl 8 (by decide) q2090 (fun _ z => z) rfl rfl rfl (Nat.le_of_ble_eq_true rfl) gm_1 rfl dX4_undo_2 ?_
  refine Z.nm (fun h2 eh2 => ?_)
  have kh2 : zkeep h h2 [A.m, A.v, A.pa, A.tx, A.ma, A.na, A.ua, A.la] := by rw [eh2]; exact zkeep.up zkeep.rf (Or.inl (by simp)) gm_1
  have fh2_0 : h2 A.m = some (true, .inr (3, [.ref A.v, .ref A.pa, .int (iI ((σ.hi.length : Nat) : Int)), .ref A.tx, .int (iI ((σ.tx.length : Nat) : Int)), .int (iI σ.si), .int (iI σ.fl), .int (iI σ.wd), .int (iI 0), .ref A.le, .ref A.qa, .int (iI ap), .int (iI nt), .int (iI rr), .int (iI rq), .int (iI rb), .int (iI wh), .ref A.ma, .ref A.na, .int (iI nd), .ref A.ua, .ref A.la, .int (iI up), .int (iI lo)])) := zse eh2
  have fh2_1 : h2 A.v = some (true, .inl (.int, 620, (mA V))) := zsn eh2 gv_1 (Ne.symm (zneA gm_1 gv_1))
  have fh2_2 : h2 A.pa = some (true, .inl (.int, 4960, (mA P))) := zsn eh2 gpa_1 (Ne.symm (zneA gm_1 gpa_1))
  have fh2_3 : h2 A.tx = some (true, .inl (.int, 200, (mA T))) := zsn eh2 gtx_1 (Ne.symm (zneA gm_1 gtx_1))
  have fh2_4 : h2 A.ma = some (true, .inl (.int, 620, (mA M))) := zsn eh2 gma_1 (Ne.symm (zneA gm_1 gma_1))
  have fh2_5 : h2 A.na = some (true, .inl (.int, 20, (mA N))) := zsn eh2 gna_1 (Ne.symm (zneA gm_1 gna_1))
  have fh2_6 : h2 A.ua = some (true, .inl (.int, 1200, (mA U))) := zsn eh2 gua_1 (Ne.symm (zneA gm_1 gua_1))
  have fh2_7 : h2 A.la = some (true, .inl (.int, 1200, (mA W))) := zsn eh2 gla_1 (Ne.symm (zneA gm_1 gla_1))
  refine z_aload_n (pc := 5) (j := 0) C dX4_undo_5 rfl rfl ?_
  refine z_getfield (pc := 6) (v := .int (iI ((σ.hi.length : Nat) : Int))) C in_X4 rfl 2 (by decide) q2084 (fun _ z => z) fh2_0 rfl dX4_undo_6 ?_
  refine z_if_ne (pc := 9) (tgt := 18) C dX4_undo_9 (by decide) (by omega) (fun c9 => ?_) (fun c9 => by exfalso; omega)
  refine z_aload_n (pc := 18) (j := 0) C dX4_undo_18 rfl rfl ?_
  refine z_dup (pc := 19) C dX4_undo_19 rfl ?_
  refine z_getfield (pc := 20) (v := .int (iI ((σ.hi.length : Nat) : Int))) C in_X4 rfl 2 (by decide) q2084 (fun _ z => z) fh2_0 rfl dX4_undo_20 ?_
  refine z_iconst (pc := 23) C dX4_undo_23 ?_
  refine z_isub (pc := 24) C dX4_undo_24 ?_
  rw [show ((((σ.hi.length : Nat) : Int) - 1) : Int) = ((hi2.length : Nat) : Int) from hhl9]
  show Z X h2 0 0 [(0, .ref A.m)] 25 [.int (iI ((hi2.length : Nat) : Int)), .ref A.m]
  refine z_putfield (pc := 25) (fs' := [.ref A.v, .ref A.pa, .int (iI ((hi2.length : Nat) : Int)), .ref A.tx, .int (iI ((σ.tx.length : Nat) : Int)), .int (iI σ.si), .int (iI σ.fl), .int (iI σ.wd), .int (iI 0), .ref A.le, .ref A.qa, .int (iI ap), .int (iI nt), .int (iI rr), .int (iI rq), .int (iI rb), .int (iI wh), .ref A.ma, .ref A.na, .int (iI nd), .ref A.ua, .ref A.la, .int (iI up), .int (iI lo)]) C in_X4 tyX4 tyX4_ok nmX4 rfl 2 (by decide) q2084 (fun _ z => z) rfl rfl rfl (Nat.le_of_ble_eq_true rfl) fh2_0 rfl dX4_undo_25 ?_
  refine Z.nm (fun h3 eh3 => ?_)
  have kh3 : zkeep h h3 [A.m, A.v, A.pa, A.tx, A.ma, A.na, A.ua, A.la] := by rw [eh3]; exact zkeep.up kh2 (Or.inl (by simp)) fh2_0
  have fh3_0 : h3 A.m = some (true, .inr (3, [.ref A.v, .ref A.pa, .int (iI ((hi2.length : Nat) : Int)), .ref A.tx, .int (iI ((σ.tx.length : Nat) : Int)), .int (iI σ.si), .int (iI σ.fl), .int (iI σ.wd), .int (iI 0), .ref A.le, .ref A.qa, .int (iI ap), .int (iI nt), .int (iI rr), .int (iI rq), .int (iI rb), .int (iI wh), .ref A.ma, .ref A.na, .int (iI nd), .ref A.ua, .ref A.la, .int (iI up), .int (iI lo)])) := zse eh3
  have fh3_1 : h3 A.v = some (true, .inl (.int, 620, (mA V))) := zsn eh3 fh2_1 (Ne.symm (zneA fh2_0 fh2_1))
  have fh3_2 : h3 A.pa = some (true, .inl (.int, 4960, (mA P))) := zsn eh3 fh2_2 (Ne.symm (zneA fh2_0 fh2_2))
  have fh3_3 : h3 A.tx = some (true, .inl (.int, 200, (mA T))) := zsn eh3 fh2_3 (Ne.symm (zneA fh2_0 fh2_3))
  have fh3_4 : h3 A.ma = some (true, .inl (.int, 620, (mA M))) := zsn eh3 fh2_4 (Ne.symm (zneA fh2_0 fh2_4))
  have fh3_5 : h3 A.na = some (true, .inl (.int, 20, (mA N))) := zsn eh3 fh2_5 (Ne.symm (zneA fh2_0 fh2_5))
  have fh3_6 : h3 A.ua = some (true, .inl (.int, 1200, (mA U))) := zsn eh3 fh2_6 (Ne.symm (zneA fh2_0 fh2_6))
  have fh3_7 : h3 A.la = some (true, .inl (.int, 1200, (mA W))) := zsn eh3 fh2_7 (Ne.symm (zneA fh2_0 fh2_7))
  refine z_iconst (pc := 28) C dX4_undo_28 ?_
  refine z_istore_n (pc := 29) (L' := [(1, .int (iI 0)), (0, .ref A.m)]) C dX4_undo_29 rfl (by rw [hnL]; decide) rfl ?_
  have loop30 : ∀ (n30 : Nat) (k : Int) (V1 : Nat → Int) (g30 : zH), (mM g30 A ((hi2.length : Nat) : Int) ((σ.tx.length : Nat) : Int) σ.si σ.fl σ.wd 0 ap nt rr rq rb wh nd up lo V1 P T M N U W) → (zkeep h g30 [A.m, A.v, A.pa, A.tx, A.ma, A.na, A.ua, A.la]) → (0 ≤ k ∧ k ≤ 620) → (∀ j, V1 j = if j < k.toNat then P (620 * hi2.length + j) else V j) → ((620 - k).toNat) = n30 → Z X g30 0 0 [(1, .int (iI k)), (0, .ref A.m)] 30 [] := by
    intro n30
    induction n30 using Nat.strongRecOn with
    | ind n30 ih30 =>
    intro k V1 g30 hMg30 hkp30 hk hq hn30
    obtain ⟨gm_4, gv_4, gpa_4, gtx_4, gma_4, gna_4, gua_4, gla_4, gle_4, gqa_4, gd_4⟩ := id hMg30
    refine z_iload_n (pc := 30) (j := 0) C dX4_undo_30 rfl rfl ?_
    refine z_sipush (pc := 31) C dX4_undo_31 (by decide) ?_
    refine z_icmp_ge (pc := 34) (tgt := 64) C dX4_undo_34 (by decide) (by omega) (by decide) (fun c34 => ?_) (fun c34 => ?_)
    · refine z_aload_n (pc := 64) (j := 1) C dX4_undo_64 rfl rfl ?_
      refine z_getfield (pc := 65) (v := .int (iI ((hi2.length : Nat) : Int))) C in_X4 rfl 2 (by decide) q2084 (fun _ z => z) gm_4 rfl dX4_undo_65 ?_
      have hSn : vS V1 S0 := hv0.ext hs0 fun k hk => by rw [hq k, if_pos (by omega)]
      have hPn : pS P hi2 := fun i S hS => hP i S (by rw [q2]; exact (List.getElem?_append_left (List.getElem?_eq_some_iff.mp hS).1).trans hS)
      exact z_ireturn (pc := 68) C (by rw [hXp]; exact ⟨_, rfl, rfl, ⟨ap, nt, rr, rq, rb, wh, nd, up, lo, V1, P, T, M, N, U, W, ⟨gm_4, gv_4, gpa_4, gtx_4, gma_4, gna_4, gua_4, gla_4, gle_4, gqa_4, gd_4⟩, hSn, hPn, htq, ⟨rsi, rff, rwd, rtl, rtx, hr0, (fun S hS => rhi S (by rw [q2]; exact List.mem_append_left _ hS)), by show hi2.length ≤ 8; omega⟩, hs0, (fun S hS => hslh S (by rw [q2]; exact List.mem_append_left _ hS))⟩, hkp30⟩) dX4_undo_68
    · refine z_aload_n (pc := 37) (j := 1) C dX4_undo_37 rfl rfl ?_
      refine z_getfield (pc := 38) (v := .ref A.v) C in_X4 rfl 0 (by decide) q2082 (fun _ z => z) gm_4 rfl dX4_undo_38 ?_
      refine z_iload_n (pc := 41) (j := 0) C dX4_undo_41 rfl rfl ?_
      refine z_aload_n (pc := 42) (j := 1) C dX4_undo_42 rfl rfl ?_
      refine z_getfield (pc := 43) (v := .ref A.pa) C in_X4 rfl 1 (by decide) q2083 (fun _ z => z) gm_4 rfl dX4_undo_43 ?_
      refine z_sipush (pc := 46) C dX4_undo_46 (by decide) ?_
      refine z_aload_n (pc := 49) (j := 1) C dX4_undo_49 rfl rfl ?_
      refine z_getfield (pc := 50) (v := .int (iI ((hi2.length : Nat) : Int))) C in_X4 rfl 2 (by decide) q2084 (fun _ z => z) gm_4 rfl dX4_undo_50 ?_
      refine z_imul (pc := 53) C dX4_undo_53 ?_
      refine z_iload_n (pc := 54) (j := 0) C dX4_undo_54 rfl rfl ?_
      refine z_iadd (pc := 55) C dX4_undo_55 ?_
      refine z_iaload (pc := 56) (v := .int (iI (P (Int.toNat ((620 * ((hi2.length : Nat) : Int)) + k))))) C gpa_4 (by omega) rfl dX4_undo_56 ?_
      refine z_iastore (pc := 57) (f' := (mA (updI V1 (Int.toNat k) (P (Int.toNat ((620 * ((hi2.length : Nat) : Int)) + k)))))) C gv_4 (by omega) (mA_up _ _ _) dX4_undo_57 ?_
      refine Z.nm (fun h5 eh5 => ?_)
      have kh5 : zkeep h h5 [A.m, A.v, A.pa, A.tx, A.ma, A.na, A.ua, A.la] := by rw [eh5]; exact zkeep.up hkp30 (Or.inl (by simp)) gv_4
      have fh5_0 : h5 A.v = some (true, .inl (.int, 620, (mA (updI V1 (Int.toNat k) (P (Int.toNat ((620 * ((hi2.length : Nat) : Int)) + k))))))) := zse eh5
      have fh5_1 : h5 A.m = some (true, .inr (3, [.ref A.v, .ref A.pa, .int (iI ((hi2.length : Nat) : Int)), .ref A.tx, .int (iI ((σ.tx.length : Nat) : Int)), .int (iI σ.si), .int (iI σ.fl), .int (iI σ.wd), .int (iI 0), .ref A.le, .ref A.qa, .int (iI ap), .int (iI nt), .int (iI rr), .int (iI rq), .int (iI rb), .int (iI wh), .ref A.ma, .ref A.na, .int (iI nd), .ref A.ua, .ref A.la, .int (iI up), .int (iI lo)])) := zsn eh5 gm_4 (zneA gm_4 gv_4)
      have fh5_2 : h5 A.pa = some (true, .inl (.int, 4960, (mA P))) := zsn eh5 gpa_4 (Ne.symm gd_4.1)
      have fh5_3 : h5 A.tx = some (true, .inl (.int, 200, (mA T))) := zsn eh5 gtx_4 (Ne.symm gd_4.2.1)
      have fh5_4 : h5 A.ma = some (true, .inl (.int, 620, (mA M))) := zsn eh5 gma_4 (Ne.symm gd_4.2.2.1)
      have fh5_5 : h5 A.na = some (true, .inl (.int, 20, (mA N))) := zsn eh5 gna_4 (Ne.symm gd_4.2.2.2.1)
      have fh5_6 : h5 A.ua = some (true, .inl (.int, 1200, (mA U))) := zsn eh5 gua_4 (Ne.symm gd_4.2.2.2.2.1)
      have fh5_7 : h5 A.la = some (true, .inl (.int, 1200, (mA W))) := zsn eh5 gla_4 (Ne.symm gd_4.2.2.2.2.2.1)
      have fh5_8 : h5 A.le = some (true, .inl (.char, 7, (mA ltF))) := zsn eh5 gle_4 (zneT gle_4 gv_4 (by simp))
      have fh5_9 : h5 A.qa = some (true, .inl (.char, 30, (mA qaF))) := zsn eh5 gqa_4 (zneT gqa_4 gv_4 (by simp))
      refine z_iinc (pc := 58) (k := 0) (L' := [(1, .int (iI (k + 1))), (0, .ref A.m)]) C dX4_undo_58 rfl (by rw [hnL]; decide) rfl ?_
      refine z_goto (pc := 61) (tgt := 30) C dX4_undo_61 (by decide) ?_
      refine Z.weak (L' := [(1, .int (iI (k + 1))), (0, .ref A.m)]) (kc' := 0) (ks' := 0) [0, 1] rfl (by omega) (by omega) ?_
      exact ih30 _ (by omega) (k + 1) (updI V1 (Int.toNat k) (P (Int.toNat ((620 * ((hi2.length : Nat) : Int)) + k)))) h5 ⟨fh5_1, fh5_0, fh5_2, fh5_3, fh5_4, fh5_5, fh5_6, fh5_7, fh5_8, fh5_9, gd_4⟩ kh5 (by omega) (cpy_st3 (by omega) hq) rfl
  refine Z.weak (L' := [(1, .int (iI 0)), (0, .ref A.m)]) (kc' := 0) (ks' := 0) [0, 1] rfl (by omega) (by omega) ?_
  exact loop30 _ 0 V h3 ⟨fh3_0, fh3_1, fh3_2, fh3_3, fh3_4, fh3_5, fh3_6, fh3_7, (kh3.n gle_1 (List.not_mem_cons_of_ne_of_not_mem (Ne.symm (zneA gm_1 gle_1)) (List.not_mem_cons_of_ne_of_not_mem (zneT gle_1 gv_1 (by simp)) (List.not_mem_cons_of_ne_of_not_mem (zneT gle_1 gpa_1 (by simp)) (List.not_mem_cons_of_ne_of_not_mem (zneT gle_1 gtx_1 (by simp)) (List.not_mem_cons_of_ne_of_not_mem (zneT gle_1 gma_1 (by simp)) (List.not_mem_cons_of_ne_of_not_mem (zneT gle_1 gna_1 (by simp)) (List.not_mem_cons_of_ne_of_not_mem (zneT gle_1 gua_1 (by simp)) (List.not_mem_cons_of_ne_of_not_mem (zneT gle_1 gla_1 (by simp)) List.not_mem_nil))))))))), (kh3.n gqa_1 (List.not_mem_cons_of_ne_of_not_mem (Ne.symm (zneA gm_1 gqa_1)) (List.not_mem_cons_of_ne_of_not_mem (zneT gqa_1 gv_1 (by simp)) (List.not_mem_cons_of_ne_of_not_mem (zneT gqa_1 gpa_1 (by simp)) (List.not_mem_cons_of_ne_of_not_mem (zneT gqa_1 gtx_1 (by simp)) (List.not_mem_cons_of_ne_of_not_mem (zneT gqa_1 gma_1 (by simp)) (List.not_mem_cons_of_ne_of_not_mem (zneT gqa_1 gna_1 (by simp)) (List.not_mem_cons_of_ne_of_not_mem (zneT gqa_1 gua_1 (by simp)) (List.not_mem_cons_of_ne_of_not_mem (zneT gqa_1 gla_1 (by simp)) List.not_mem_nil))))))))), gd_1⟩ kh3 (by omega) (fun j => by rw [if_neg (by omega)]) rfl
set_option maxHeartbeats 4000000 in
theorem md_undo_b {l : Launch} (hl : l.stackTraces = false) {Γ : zCx} {h : zH} {A : zMA} {σ : zSt} {th : Int} (hW : mdW h A σ th) (q1 : σ.hi = [])  : zMet l yX4_undo (ws_ yX4_undo cX4_undo 2 (some .int)) ({ frames := 1, cells := 0, slots := 0, locals := 21 }) Γ h [.ref A.m] (zrt (fun w h' => w = some (.int (iI (0))) ∧ mdW h' A σ 1 ∧ zkeep h h' [A.m, A.v, A.pa, A.tx, A.ma, A.na, A.ua, A.la])) 0 0 := by
  refine zMet.of (cc := cX4_undo) hl (plainFor_of_name (by decide +kernel)) (Nat.le_of_ble_eq_true rfl) ?_
  intro X hXl hXΓ hXp C hnm hnL
  have C : zC X cX4_undo RX4 (some .int) 1 21 [] := C
  have hnL : X.2.1.2.2.2.2 = 2 := hnL
  subst hXl hXΓ
  show Z X h 0 0 [(0, .ref A.m)] 0 []
  obtain ⟨ap, nt, rr, rq, rb, wh, nd, up, lo, V, P, T, M, N, U, W, hM, hS, hP, htq, hR, hsl, hslh⟩ := id hW
  obtain ⟨rsi, rff, rwd, rtl, rtx, rsh, rhi, rhl⟩ := id hR
  obtain ⟨rcl, rcr, rll, rlt, rkt, rkm, rks⟩ := id rsh
  obtain ⟨hsl1, hsl2, hsl3⟩ := id hsl
  have hTr := rtx
  have hTl := rtl
  obtain ⟨gm_1, gv_1, gpa_1, gtx_1, gma_1, gna_1, gua_1, gla_1, gle_1, gqa_1, gd_1⟩ := id hM
  have hz0 : ((σ.hi.length : Nat) : Int) = 0 := by rw [q1]; rfl
  refine z_aload_n (pc := 0) (j := 0) C dX4_undo_0 rfl rfl ?_
  refine z_iconst (pc := 1) C dX4_undo_1 ?_
  refine z_putfield (pc := 2) (fs' := [.ref A.v, .ref A.pa, .int (iI ((σ.hi.length : Nat) : Int)), .ref A.tx, .int (iI ((σ.tx.length : Nat) : Int)), .int (iI σ.si), .int (iI σ.fl), .int (iI σ.wd), .int (iI 0), .ref A.le, .ref A.qa, .int (iI ap), .int (iI nt), .int (iI rr), .int (iI rq), .int (iI rb), .int (iI wh), .ref A.ma, .ref A.na, .int (iI nd), .ref A.ua, .ref A.la, .int (iI up), .int (iI lo)]) C in_X4 tyX4 tyX4_ok nmX4 rfl 8 (by decide) q2090 (fun _ z => z) rfl rfl rfl (Nat.le_of_ble_eq_true rfl) gm_1 rfl dX4_undo_2 ?_
  refine Z.nm (fun h2 eh2 => ?_)
  have kh2 : zkeep h h2 [A.m, A.v, A.pa, A.tx, A.ma, A.na, A.ua, A.la] := by rw [eh2]; exact zkeep.up zkeep.rf (Or.inl (by simp)) gm_1
  have fh2_0 : h2 A.m = some (true, .inr (3, [.ref A.v, .ref A.pa, .int (iI ((σ.hi.length : Nat) : Int)), .ref A.tx, .int (iI ((σ.tx.length : Nat) : Int)), .int (iI σ.si), .int (iI σ.fl), .int (iI σ.wd), .int (iI 0), .ref A.le, .ref A.qa, .int (iI ap), .int (iI nt), .int (iI rr), .int (iI rq), .int (iI rb), .int (iI wh), .ref A.ma, .ref A.na, .int (iI nd), .ref A.ua, .ref A.la, .int (iI up), .int (iI lo)])) := zse eh2
  have fh2_1 : h2 A.v = some (true, .inl (.int, 620, (mA V))) := zsn eh2 gv_1 (Ne.symm (zneA gm_1 gv_1))
  have fh2_2 : h2 A.pa = some (true, .inl (.int, 4960, (mA P))) := zsn eh2 gpa_1 (Ne.symm (zneA gm_1 gpa_1))
  have fh2_3 : h2 A.tx = some (true, .inl (.int, 200, (mA T))) := zsn eh2 gtx_1 (Ne.symm (zneA gm_1 gtx_1))
  have fh2_4 : h2 A.ma = some (true, .inl (.int, 620, (mA M))) := zsn eh2 gma_1 (Ne.symm (zneA gm_1 gma_1))
  have fh2_5 : h2 A.na = some (true, .inl (.int, 20, (mA N))) := zsn eh2 gna_1 (Ne.symm (zneA gm_1 gna_1))
  have fh2_6 : h2 A.ua = some (true, .inl (.int, 1200, (mA U))) := zsn eh2 gua_1 (Ne.symm (zneA gm_1 gua_1))
  have fh2_7 : h2 A.la = some (true, .inl (.int, 1200, (mA W))) := zsn eh2 gla_1 (Ne.symm (zneA gm_1 gla_1))
  refine z_aload_n (pc := 5) (j := 0) C dX4_undo_5 rfl rfl ?_
  refine z_getfield (pc := 6) (v := .int (iI ((σ.hi.length : Nat) : Int))) C in_X4 rfl 2 (by decide) q2084 (fun _ z => z) fh2_0 rfl dX4_undo_6 ?_
  refine z_if_ne (pc := 9) (tgt := 18) C dX4_undo_9 (by decide) (by omega) (fun c9 => by exfalso; omega) (fun c9 => ?_)
  refine z_aload_n (pc := 12) (j := 0) C dX4_undo_12 rfl rfl ?_
  refine z_iconst (pc := 13) C dX4_undo_13 ?_
  refine z_callV (pc := 14) (n := 1) (kc' := 0) (ks' := 0) C (m_fails C.t ⟨fh2_0, fh2_1, fh2_2, fh2_3, fh2_4, fh2_5, fh2_6, fh2_7, (kh2.n gle_1 (List.not_mem_cons_of_ne_of_not_mem (Ne.symm (zneA gm_1 gle_1)) (List.not_mem_cons_of_ne_of_not_mem (zneT gle_1 gv_1 (by simp)) (List.not_mem_cons_of_ne_of_not_mem (zneT gle_1 gpa_1 (by simp)) (List.not_mem_cons_of_ne_of_not_mem (zneT gle_1 gtx_1 (by simp)) (List.not_mem_cons_of_ne_of_not_mem (zneT gle_1 gma_1 (by simp)) (List.not_mem_cons_of_ne_of_not_mem (zneT gle_1 gna_1 (by simp)) (List.not_mem_cons_of_ne_of_not_mem (zneT gle_1 gua_1 (by simp)) (List.not_mem_cons_of_ne_of_not_mem (zneT gle_1 gla_1 (by simp)) List.not_mem_nil))))))))), (kh2.n gqa_1 (List.not_mem_cons_of_ne_of_not_mem (Ne.symm (zneA gm_1 gqa_1)) (List.not_mem_cons_of_ne_of_not_mem (zneT gqa_1 gv_1 (by simp)) (List.not_mem_cons_of_ne_of_not_mem (zneT gqa_1 gpa_1 (by simp)) (List.not_mem_cons_of_ne_of_not_mem (zneT gqa_1 gtx_1 (by simp)) (List.not_mem_cons_of_ne_of_not_mem (zneT gqa_1 gma_1 (by simp)) (List.not_mem_cons_of_ne_of_not_mem (zneT gqa_1 gna_1 (by simp)) (List.not_mem_cons_of_ne_of_not_mem (zneT gqa_1 gua_1 (by simp)) (List.not_mem_cons_of_ne_of_not_mem (zneT gqa_1 gla_1 (by simp)) List.not_mem_nil))))))))), gd_1⟩ (x := 1)) (lw_V q2167 q2169 qs27 q74 q2170) (by decide +kernel) ⟨by decide, by decide⟩ fh2_0 rfl rfl rfl (Nat.le_of_ble_eq_true rfl) dX4_undo_14 (by omega) (by omega) (zrk fun w h3 hp => ?_) zrx
  obtain ⟨rfl, hM_5, k4⟩ := hp
  have kh3 : zkeep h h3 [A.m, A.v, A.pa, A.tx, A.ma, A.na, A.ua, A.la] := zkeep.loc kh2 k4 (fun q hq => Or.inl (Or.inr hq))
  have hM_5 : mM h3 A ((σ.hi.length : Nat) : Int) ((σ.tx.length : Nat) : Int) σ.si σ.fl σ.wd 1 ap nt rr rq rb wh nd up lo V P T M N U W := hM_5
  obtain ⟨gm_6, gv_6, gpa_6, gtx_6, gma_6, gna_6, gua_6, gla_6, gle_6, gqa_6, gd_6⟩ := id hM_5
  show Z X h3 0 0 [(0, .ref A.m)] 17 [.int (iI 0)]
  exact z_ireturn (pc := 17) C (by rw [hXp]; exact ⟨_, rfl, rfl, ⟨ap, nt, rr, rq, rb, wh, nd, up, lo, V, P, T, M, N, U, W, ⟨gm_6, gv_6, gpa_6, gtx_6, gma_6, gna_6, gua_6, gla_6, gle_6, gqa_6, gd_6⟩, hS, hP, htq, hR, hsl, hslh⟩, kh3⟩) dX4_undo_17

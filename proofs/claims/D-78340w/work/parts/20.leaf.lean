/-! 20.leaf.lean.txt -/
set_option maxRecDepth 100000
abbrev cX1_isIn : ByteArray := prog_1_method_2_code
def yX1_isIn : MethodName := ⟨RX1, "isIn", "(JJJ)Z"⟩
def dkwX1_isIn_0 : List UInt8 := [30, 32, 148, 155, 0, 14, 30, 22, 4, 148, 157, 0, 7, 4, 167, 0, 4, 3, 172]
abbrev dktX1_isIn_0 : List UInt8 := dkwX1_isIn_0 ++ []
theorem dksX1_isIn_0 : cX1_isIn.data.toList.drop 0 = dktX1_isIn_0 := by decide +kernel
abbrev cX1_checkIndex : ByteArray := prog_1_method_3_code
def yX1_checkIndex : MethodName := ⟨RX1, "checkIndex", "(II)V"⟩
def dkwX1_checkIndex_0 : List UInt8 := [26, 133, 9, 27, 133, 10, 101, 184, 0, 56, 154, 0, 11, 187, 0, 60, 89, 183, 0, 62, 191, 177]
abbrev dktX1_checkIndex_0 : List UInt8 := dkwX1_checkIndex_0 ++ []
theorem dksX1_checkIndex_0 : cX1_checkIndex.data.toList.drop 0 = dktX1_checkIndex_0 := by decide +kernel
abbrev cX1_checkArgument : ByteArray := prog_1_method_4_code
def yX1_checkArgument : MethodName := ⟨RX1, "checkArgument", "(Z)V"⟩
def dkwX1_checkArgument_0 : List UInt8 := [26, 154, 0, 11, 187, 0, 63, 89, 183, 0, 65, 191, 177]
abbrev dktX1_checkArgument_0 : List UInt8 := dkwX1_checkArgument_0 ++ []
theorem dksX1_checkArgument_0 : cX1_checkArgument.data.toList.drop 0 = dktX1_checkArgument_0 := by decide +kernel
abbrev cX1_checkState : ByteArray := prog_1_method_5_code
def yX1_checkState : MethodName := ⟨RX1, "checkState", "(Z)V"⟩
def dkwX1_checkState_0 : List UInt8 := [26, 154, 0, 11, 187, 0, 66, 89, 183, 0, 68, 191, 177]
abbrev dktX1_checkState_0 : List UInt8 := dkwX1_checkState_0 ++ []
theorem dksX1_checkState_0 : cX1_checkState.data.toList.drop 0 = dktX1_checkState_0 := by decide +kernel
abbrev cX1_pitchClass : ByteArray := prog_1_method_6_code
def yX1_pitchClass : MethodName := ⟨RX1, "pitchClass", "(I)I"⟩
def dkwX1_pitchClass_0 : List UInt8 := [16, 7, 26, 104, 16, 12, 184, 0, 69, 172]
abbrev dktX1_pitchClass_0 : List UInt8 := dkwX1_pitchClass_0 ++ []
theorem dksX1_pitchClass_0 : cX1_pitchClass.data.toList.drop 0 = dktX1_pitchClass_0 := by decide +kernel
abbrev cX1_accidentals : ByteArray := prog_1_method_7_code
def yX1_accidentals : MethodName := ⟨RX1, "accidentals", "(I)I"⟩
def dkwX1_accidentals_0 : List UInt8 := [26, 4, 96, 18, 75, 182, 0, 77, 184, 0, 83, 172]
abbrev dktX1_accidentals_0 : List UInt8 := dkwX1_accidentals_0 ++ []
theorem dksX1_accidentals_0 : cX1_accidentals.data.toList.drop 0 = dktX1_accidentals_0 := by decide +kernel
abbrev cX1_placeFrom : ByteArray := prog_1_method_9_code
def yX1_placeFrom : MethodName := ⟨RX1, "placeFrom", "(II)I"⟩
def dkwX1_placeFrom_0 : List UInt8 := [26, 16, 7, 27, 104, 26, 100, 16, 12, 184, 0, 69, 96, 172]
abbrev dktX1_placeFrom_0 : List UInt8 := dkwX1_placeFrom_0 ++ []
theorem dksX1_placeFrom_0 : cX1_placeFrom.data.toList.drop 0 = dktX1_placeFrom_0 := by decide +kernel
abbrev cX1_intervals : ByteArray := prog_1_method_11_code
def yX1_intervals : MethodName := ⟨RX1, "intervals", "(I)I"⟩
def dkwX1_intervals_4 : List UInt8 := [17, 2, 145, 167, 0, 6, 17, 4, 149, 172]
abbrev dktX1_intervals_4 : List UInt8 := dkwX1_intervals_4 ++ []
def dkwX1_intervals_3 : List UInt8 := [17, 8, 145, 167, 0, 29, 16, 73, 167, 0, 24, 17, 1, 17, 167, 0, 18, 17, 0, 161, 167, 0, 12]
abbrev dktX1_intervals_3 : List UInt8 := dkwX1_intervals_3 ++ dktX1_intervals_4
def dkwX1_intervals_2 : List UInt8 := [17, 0, 145, 167, 0, 53, 17, 0, 137, 167, 0, 47, 17, 4, 145, 167, 0, 41, 17, 4, 137, 167, 0, 35]
abbrev dktX1_intervals_2 : List UInt8 := dkwX1_intervals_2 ++ dktX1_intervals_3
def dkwX1_intervals_1 : List UInt8 := [170, 0, 0, 0, 0, 0, 104, 0, 0, 0, 0, 0, 0, 0, 8, 0, 0, 0, 51, 0, 0, 0, 57, 0, 0, 0, 63, 0, 0, 0, 69, 0, 0, 0, 75, 0, 0, 0, 81, 0, 0, 0, 86, 0, 0, 0, 92, 0, 0, 0, 98]
abbrev dktX1_intervals_1 : List UInt8 := dkwX1_intervals_1 ++ dktX1_intervals_2
def dkwX1_intervals_0 : List UInt8 := [26]
abbrev dktX1_intervals_0 : List UInt8 := dkwX1_intervals_0 ++ dktX1_intervals_1
theorem dksX1_intervals_0 : cX1_intervals.data.toList.drop 0 = dktX1_intervals_0 := by decide +kernel
theorem dksX1_intervals_1 : cX1_intervals.data.toList.drop 1 = dktX1_intervals_1 := dk_seg dksX1_intervals_0 1 rfl rfl
theorem dksX1_intervals_2 : cX1_intervals.data.toList.drop 52 = dktX1_intervals_2 := dk_seg dksX1_intervals_1 51 rfl rfl
theorem dksX1_intervals_3 : cX1_intervals.data.toList.drop 76 = dktX1_intervals_3 := dk_seg dksX1_intervals_2 24 rfl rfl
theorem dksX1_intervals_4 : cX1_intervals.data.toList.drop 99 = dktX1_intervals_4 := dk_seg dksX1_intervals_3 23 rfl rfl
abbrev cX1_easyRoots : ByteArray := prog_1_method_12_code
def yX1_easyRoots : MethodName := ⟨RX1, "easyRoots", "(I)I"⟩
def dkwX1_easyRoots_2 : List UInt8 := [17, 2, 149, 167, 0, 16, 17, 2, 20, 167, 0, 10, 17, 10, 149, 167, 0, 4, 3, 172]
abbrev dktX1_easyRoots_2 : List UInt8 := dkwX1_easyRoots_2 ++ []
def dkwX1_easyRoots_1 : List UInt8 := [170, 0, 0, 0, 0, 0, 49, 0, 0, 0, 0, 0, 0, 0, 3, 0, 0, 0, 31, 0, 0, 0, 37, 0, 0, 0, 43, 0, 0, 0, 37]
abbrev dktX1_easyRoots_1 : List UInt8 := dkwX1_easyRoots_1 ++ dktX1_easyRoots_2
def dkwX1_easyRoots_0 : List UInt8 := [26]
abbrev dktX1_easyRoots_0 : List UInt8 := dkwX1_easyRoots_0 ++ dktX1_easyRoots_1
theorem dksX1_easyRoots_0 : cX1_easyRoots.data.toList.drop 0 = dktX1_easyRoots_0 := by decide +kernel
theorem dksX1_easyRoots_1 : cX1_easyRoots.data.toList.drop 1 = dktX1_easyRoots_1 := dk_seg dksX1_easyRoots_0 1 rfl rfl
theorem dksX1_easyRoots_2 : cX1_easyRoots.data.toList.drop 32 = dktX1_easyRoots_2 := dk_seg dksX1_easyRoots_1 31 rfl rfl
abbrev cX1_has : ByteArray := prog_1_method_13_code
def yX1_has : MethodName := ⟨RX1, "has", "(II)Z"⟩
def dkwX1_has_0 : List UInt8 := [26, 27, 122, 4, 126, 4, 160, 0, 7, 4, 167, 0, 4, 3, 172]
abbrev dktX1_has_0 : List UInt8 := dkwX1_has_0 ++ []
theorem dksX1_has_0 : cX1_has.data.toList.drop 0 = dktX1_has_0 := by decide +kernel
abbrev cX1_quality : ByteArray := prog_1_method_10_code
def yX1_quality : MethodName := ⟨RX1, "quality", "(I)Ljava/lang/String;"⟩
def dkwX1_quality_4 : List UInt8 := [18, 119, 176]
abbrev dktX1_quality_4 : List UInt8 := dkwX1_quality_4 ++ []
def dkwX1_quality_3 : List UInt8 := [167, 0, 25, 18, 111, 167, 0, 20, 18, 113, 167, 0, 15, 18, 115, 167, 0, 10, 18, 117, 167, 0, 5]
abbrev dktX1_quality_3 : List UInt8 := dkwX1_quality_3 ++ dktX1_quality_4
def dkwX1_quality_2 : List UInt8 := [18, 48, 167, 0, 45, 18, 103, 167, 0, 40, 18, 105, 167, 0, 35, 18, 107, 167, 0, 30, 18, 109]
abbrev dktX1_quality_2 : List UInt8 := dkwX1_quality_2 ++ dktX1_quality_3
def dkwX1_quality_1 : List UInt8 := [170, 0, 0, 0, 0, 0, 96, 0, 0, 0, 0, 0, 0, 0, 8, 0, 0, 0, 51, 0, 0, 0, 56, 0, 0, 0, 61, 0, 0, 0, 66, 0, 0, 0, 71, 0, 0, 0, 76, 0, 0, 0, 81, 0, 0, 0, 86, 0, 0, 0, 91]
abbrev dktX1_quality_1 : List UInt8 := dkwX1_quality_1 ++ dktX1_quality_2
def dkwX1_quality_0 : List UInt8 := [26]
abbrev dktX1_quality_0 : List UInt8 := dkwX1_quality_0 ++ dktX1_quality_1
theorem dksX1_quality_0 : cX1_quality.data.toList.drop 0 = dktX1_quality_0 := by decide +kernel
theorem dksX1_quality_1 : cX1_quality.data.toList.drop 1 = dktX1_quality_1 := dk_seg dksX1_quality_0 1 rfl rfl
theorem dksX1_quality_2 : cX1_quality.data.toList.drop 52 = dktX1_quality_2 := dk_seg dksX1_quality_1 51 rfl rfl
theorem dksX1_quality_3 : cX1_quality.data.toList.drop 74 = dktX1_quality_3 := dk_seg dksX1_quality_2 22 rfl rfl
theorem dksX1_quality_4 : cX1_quality.data.toList.drop 97 = dktX1_quality_4 := dk_seg dksX1_quality_3 23 rfl rfl
theorem dX1_isIn_0 : decode cX1_isIn 0 = .ok (.lload_n 0, 1) := dk_30 (dk_at dksX1_isIn_0 0 rfl rfl)
theorem dX1_isIn_1 : decode cX1_isIn 1 = .ok (.lload_n 2, 1) := dk_32 (dk_at dksX1_isIn_0 1 rfl rfl)
theorem dX1_isIn_2 : decode cX1_isIn 2 = .ok (.lcmp, 1) := dk_148 (dk_at dksX1_isIn_0 2 rfl rfl)
theorem dX1_isIn_3 : decode cX1_isIn 3 = .ok (.ifCond .lt 14, 3) := dk_155 0 14 (dk_at dksX1_isIn_0 3 rfl rfl)
theorem dX1_isIn_6 : decode cX1_isIn 6 = .ok (.lload_n 0, 1) := dk_30 (dk_at dksX1_isIn_0 6 rfl rfl)
theorem dX1_isIn_7 : decode cX1_isIn 7 = .ok (.lload 4, 2) := dk_22 4 (dk_at dksX1_isIn_0 7 rfl rfl)
theorem dX1_isIn_9 : decode cX1_isIn 9 = .ok (.lcmp, 1) := dk_148 (dk_at dksX1_isIn_0 9 rfl rfl)
theorem dX1_isIn_10 : decode cX1_isIn 10 = .ok (.ifCond .gt 7, 3) := dk_157 0 7 (dk_at dksX1_isIn_0 10 rfl rfl)
theorem dX1_isIn_13 : decode cX1_isIn 13 = .ok (.iconst 1, 1) := dk_4 (dk_at dksX1_isIn_0 13 rfl rfl)
theorem dX1_isIn_14 : decode cX1_isIn 14 = .ok (.goto 4, 3) := dk_167 0 4 (dk_at dksX1_isIn_0 14 rfl rfl)
theorem dX1_isIn_17 : decode cX1_isIn 17 = .ok (.iconst 0, 1) := dk_3 (dk_at dksX1_isIn_0 17 rfl rfl)
theorem dX1_isIn_18 : decode cX1_isIn 18 = .ok (.ireturn, 1) := dk_172 (dk_at dksX1_isIn_0 18 rfl rfl)
theorem dX1_checkIndex_0 : decode cX1_checkIndex 0 = .ok (.iload_n 0, 1) := dk_26 (dk_at dksX1_checkIndex_0 0 rfl rfl)
theorem dX1_checkIndex_1 : decode cX1_checkIndex 1 = .ok (.i2l, 1) := dk_133 (dk_at dksX1_checkIndex_0 1 rfl rfl)
theorem dX1_checkIndex_2 : decode cX1_checkIndex 2 = .ok (.lconst 0, 1) := dk_9 (dk_at dksX1_checkIndex_0 2 rfl rfl)
theorem dX1_checkIndex_3 : decode cX1_checkIndex 3 = .ok (.iload_n 1, 1) := dk_27 (dk_at dksX1_checkIndex_0 3 rfl rfl)
theorem dX1_checkIndex_4 : decode cX1_checkIndex 4 = .ok (.i2l, 1) := dk_133 (dk_at dksX1_checkIndex_0 4 rfl rfl)
theorem dX1_checkIndex_5 : decode cX1_checkIndex 5 = .ok (.lconst 1, 1) := dk_10 (dk_at dksX1_checkIndex_0 5 rfl rfl)
theorem dX1_checkIndex_6 : decode cX1_checkIndex 6 = .ok (.lsub, 1) := dk_101 (dk_at dksX1_checkIndex_0 6 rfl rfl)
theorem dX1_checkIndex_7 : decode cX1_checkIndex 7 = .ok (.invokestatic 56, 3) := dk_184 0 56 (dk_at dksX1_checkIndex_0 7 rfl rfl)
theorem dX1_checkIndex_10 : decode cX1_checkIndex 10 = .ok (.ifCond .ne 11, 3) := dk_154 0 11 (dk_at dksX1_checkIndex_0 10 rfl rfl)
theorem dX1_checkIndex_13 : decode cX1_checkIndex 13 = .ok (.new 60, 3) := dk_187 0 60 (dk_at dksX1_checkIndex_0 13 rfl rfl)
theorem dX1_checkIndex_16 : decode cX1_checkIndex 16 = .ok (.dup, 1) := dk_89 (dk_at dksX1_checkIndex_0 16 rfl rfl)
theorem dX1_checkIndex_17 : decode cX1_checkIndex 17 = .ok (.invokespecial 62, 3) := dk_183 0 62 (dk_at dksX1_checkIndex_0 17 rfl rfl)
theorem dX1_checkIndex_20 : decode cX1_checkIndex 20 = .ok (.athrow, 1) := dk_191 (dk_at dksX1_checkIndex_0 20 rfl rfl)
theorem dX1_checkIndex_21 : decode cX1_checkIndex 21 = .ok (.return_, 1) := dk_177 (dk_at dksX1_checkIndex_0 21 rfl rfl)
theorem dX1_checkArgument_0 : decode cX1_checkArgument 0 = .ok (.iload_n 0, 1) := dk_26 (dk_at dksX1_checkArgument_0 0 rfl rfl)
theorem dX1_checkArgument_1 : decode cX1_checkArgument 1 = .ok (.ifCond .ne 11, 3) := dk_154 0 11 (dk_at dksX1_checkArgument_0 1 rfl rfl)
theorem dX1_checkArgument_4 : decode cX1_checkArgument 4 = .ok (.new 63, 3) := dk_187 0 63 (dk_at dksX1_checkArgument_0 4 rfl rfl)
theorem dX1_checkArgument_7 : decode cX1_checkArgument 7 = .ok (.dup, 1) := dk_89 (dk_at dksX1_checkArgument_0 7 rfl rfl)
theorem dX1_checkArgument_8 : decode cX1_checkArgument 8 = .ok (.invokespecial 65, 3) := dk_183 0 65 (dk_at dksX1_checkArgument_0 8 rfl rfl)
theorem dX1_checkArgument_11 : decode cX1_checkArgument 11 = .ok (.athrow, 1) := dk_191 (dk_at dksX1_checkArgument_0 11 rfl rfl)
theorem dX1_checkArgument_12 : decode cX1_checkArgument 12 = .ok (.return_, 1) := dk_177 (dk_at dksX1_checkArgument_0 12 rfl rfl)
theorem dX1_checkState_0 : decode cX1_checkState 0 = .ok (.iload_n 0, 1) := dk_26 (dk_at dksX1_checkState_0 0 rfl rfl)
theorem dX1_checkState_1 : decode cX1_checkState 1 = .ok (.ifCond .ne 11, 3) := dk_154 0 11 (dk_at dksX1_checkState_0 1 rfl rfl)
theorem dX1_checkState_4 : decode cX1_checkState 4 = .ok (.new 66, 3) := dk_187 0 66 (dk_at dksX1_checkState_0 4 rfl rfl)
theorem dX1_checkState_7 : decode cX1_checkState 7 = .ok (.dup, 1) := dk_89 (dk_at dksX1_checkState_0 7 rfl rfl)
theorem dX1_checkState_8 : decode cX1_checkState 8 = .ok (.invokespecial 68, 3) := dk_183 0 68 (dk_at dksX1_checkState_0 8 rfl rfl)
theorem dX1_checkState_11 : decode cX1_checkState 11 = .ok (.athrow, 1) := dk_191 (dk_at dksX1_checkState_0 11 rfl rfl)
theorem dX1_checkState_12 : decode cX1_checkState 12 = .ok (.return_, 1) := dk_177 (dk_at dksX1_checkState_0 12 rfl rfl)
theorem dX1_pitchClass_0 : decode cX1_pitchClass 0 = .ok (.bipush 7, 2) := dk_16 7 (dk_at dksX1_pitchClass_0 0 rfl rfl)
theorem dX1_pitchClass_2 : decode cX1_pitchClass 2 = .ok (.iload_n 0, 1) := dk_26 (dk_at dksX1_pitchClass_0 2 rfl rfl)
theorem dX1_pitchClass_3 : decode cX1_pitchClass 3 = .ok (.imul, 1) := dk_104 (dk_at dksX1_pitchClass_0 3 rfl rfl)
theorem dX1_pitchClass_4 : decode cX1_pitchClass 4 = .ok (.bipush 12, 2) := dk_16 12 (dk_at dksX1_pitchClass_0 4 rfl rfl)
theorem dX1_pitchClass_6 : decode cX1_pitchClass 6 = .ok (.invokestatic 69, 3) := dk_184 0 69 (dk_at dksX1_pitchClass_0 6 rfl rfl)
theorem dX1_pitchClass_9 : decode cX1_pitchClass 9 = .ok (.ireturn, 1) := dk_172 (dk_at dksX1_pitchClass_0 9 rfl rfl)
theorem dX1_accidentals_0 : decode cX1_accidentals 0 = .ok (.iload_n 0, 1) := dk_26 (dk_at dksX1_accidentals_0 0 rfl rfl)
theorem dX1_accidentals_1 : decode cX1_accidentals 1 = .ok (.iconst 1, 1) := dk_4 (dk_at dksX1_accidentals_0 1 rfl rfl)
theorem dX1_accidentals_2 : decode cX1_accidentals 2 = .ok (.iadd, 1) := dk_96 (dk_at dksX1_accidentals_0 2 rfl rfl)
theorem dX1_accidentals_3 : decode cX1_accidentals 3 = .ok (.ldc 75, 2) := dk_18 75 (dk_at dksX1_accidentals_0 3 rfl rfl)
theorem dX1_accidentals_5 : decode cX1_accidentals 5 = .ok (.invokevirtual 77, 3) := dk_182 0 77 (dk_at dksX1_accidentals_0 5 rfl rfl)
theorem dX1_accidentals_8 : decode cX1_accidentals 8 = .ok (.invokestatic 83, 3) := dk_184 0 83 (dk_at dksX1_accidentals_0 8 rfl rfl)
theorem dX1_accidentals_11 : decode cX1_accidentals 11 = .ok (.ireturn, 1) := dk_172 (dk_at dksX1_accidentals_0 11 rfl rfl)
theorem dX1_placeFrom_0 : decode cX1_placeFrom 0 = .ok (.iload_n 0, 1) := dk_26 (dk_at dksX1_placeFrom_0 0 rfl rfl)
theorem dX1_placeFrom_1 : decode cX1_placeFrom 1 = .ok (.bipush 7, 2) := dk_16 7 (dk_at dksX1_placeFrom_0 1 rfl rfl)
theorem dX1_placeFrom_3 : decode cX1_placeFrom 3 = .ok (.iload_n 1, 1) := dk_27 (dk_at dksX1_placeFrom_0 3 rfl rfl)
theorem dX1_placeFrom_4 : decode cX1_placeFrom 4 = .ok (.imul, 1) := dk_104 (dk_at dksX1_placeFrom_0 4 rfl rfl)
theorem dX1_placeFrom_5 : decode cX1_placeFrom 5 = .ok (.iload_n 0, 1) := dk_26 (dk_at dksX1_placeFrom_0 5 rfl rfl)
theorem dX1_placeFrom_6 : decode cX1_placeFrom 6 = .ok (.isub, 1) := dk_100 (dk_at dksX1_placeFrom_0 6 rfl rfl)
theorem dX1_placeFrom_7 : decode cX1_placeFrom 7 = .ok (.bipush 12, 2) := dk_16 12 (dk_at dksX1_placeFrom_0 7 rfl rfl)
theorem dX1_placeFrom_9 : decode cX1_placeFrom 9 = .ok (.invokestatic 69, 3) := dk_184 0 69 (dk_at dksX1_placeFrom_0 9 rfl rfl)
theorem dX1_placeFrom_12 : decode cX1_placeFrom 12 = .ok (.iadd, 1) := dk_96 (dk_at dksX1_placeFrom_0 12 rfl rfl)
theorem dX1_placeFrom_13 : decode cX1_placeFrom 13 = .ok (.ireturn, 1) := dk_172 (dk_at dksX1_placeFrom_0 13 rfl rfl)
theorem dX1_intervals_0 : decode cX1_intervals 0 = .ok (.iload_n 0, 1) := dk_26 (dk_at dksX1_intervals_0 0 rfl rfl)
theorem dX1_intervals_1 : decode cX1_intervals 1 = .ok (.tableswitch 104 0 8 #[51, 57, 63, 69, 75, 81, 86, 92, 98], 51) := by decide +kernel
theorem dX1_intervals_52 : decode cX1_intervals 52 = .ok (.sipush 145, 3) := dk_17 0 145 (dk_at dksX1_intervals_2 0 rfl rfl)
theorem dX1_intervals_55 : decode cX1_intervals 55 = .ok (.goto 53, 3) := dk_167 0 53 (dk_at dksX1_intervals_2 3 rfl rfl)
theorem dX1_intervals_58 : decode cX1_intervals 58 = .ok (.sipush 137, 3) := dk_17 0 137 (dk_at dksX1_intervals_2 6 rfl rfl)
theorem dX1_intervals_61 : decode cX1_intervals 61 = .ok (.goto 47, 3) := dk_167 0 47 (dk_at dksX1_intervals_2 9 rfl rfl)
theorem dX1_intervals_64 : decode cX1_intervals 64 = .ok (.sipush 1169, 3) := dk_17 4 145 (dk_at dksX1_intervals_2 12 rfl rfl)
theorem dX1_intervals_67 : decode cX1_intervals 67 = .ok (.goto 41, 3) := dk_167 0 41 (dk_at dksX1_intervals_2 15 rfl rfl)
theorem dX1_intervals_70 : decode cX1_intervals 70 = .ok (.sipush 1161, 3) := dk_17 4 137 (dk_at dksX1_intervals_2 18 rfl rfl)
theorem dX1_intervals_73 : decode cX1_intervals 73 = .ok (.goto 35, 3) := dk_167 0 35 (dk_at dksX1_intervals_2 21 rfl rfl)
theorem dX1_intervals_76 : decode cX1_intervals 76 = .ok (.sipush 2193, 3) := dk_17 8 145 (dk_at dksX1_intervals_3 0 rfl rfl)
theorem dX1_intervals_79 : decode cX1_intervals 79 = .ok (.goto 29, 3) := dk_167 0 29 (dk_at dksX1_intervals_3 3 rfl rfl)
theorem dX1_intervals_82 : decode cX1_intervals 82 = .ok (.bipush 73, 2) := dk_16 73 (dk_at dksX1_intervals_3 6 rfl rfl)
theorem dX1_intervals_84 : decode cX1_intervals 84 = .ok (.goto 24, 3) := dk_167 0 24 (dk_at dksX1_intervals_3 8 rfl rfl)
theorem dX1_intervals_87 : decode cX1_intervals 87 = .ok (.sipush 273, 3) := dk_17 1 17 (dk_at dksX1_intervals_3 11 rfl rfl)
theorem dX1_intervals_90 : decode cX1_intervals 90 = .ok (.goto 18, 3) := dk_167 0 18 (dk_at dksX1_intervals_3 14 rfl rfl)
theorem dX1_intervals_93 : decode cX1_intervals 93 = .ok (.sipush 161, 3) := dk_17 0 161 (dk_at dksX1_intervals_3 17 rfl rfl)
theorem dX1_intervals_96 : decode cX1_intervals 96 = .ok (.goto 12, 3) := dk_167 0 12 (dk_at dksX1_intervals_3 20 rfl rfl)
theorem dX1_intervals_99 : decode cX1_intervals 99 = .ok (.sipush 657, 3) := dk_17 2 145 (dk_at dksX1_intervals_4 0 rfl rfl)
theorem dX1_intervals_102 : decode cX1_intervals 102 = .ok (.goto 6, 3) := dk_167 0 6 (dk_at dksX1_intervals_4 3 rfl rfl)
theorem dX1_intervals_105 : decode cX1_intervals 105 = .ok (.sipush 1173, 3) := dk_17 4 149 (dk_at dksX1_intervals_4 6 rfl rfl)
theorem dX1_intervals_108 : decode cX1_intervals 108 = .ok (.ireturn, 1) := dk_172 (dk_at dksX1_intervals_4 9 rfl rfl)
theorem dX1_easyRoots_0 : decode cX1_easyRoots 0 = .ok (.iload_n 0, 1) := dk_26 (dk_at dksX1_easyRoots_0 0 rfl rfl)
theorem dX1_easyRoots_1 : decode cX1_easyRoots 1 = .ok (.tableswitch 49 0 3 #[31, 37, 43, 37], 31) := by decide +kernel
theorem dX1_easyRoots_32 : decode cX1_easyRoots 32 = .ok (.sipush 661, 3) := dk_17 2 149 (dk_at dksX1_easyRoots_2 0 rfl rfl)
theorem dX1_easyRoots_35 : decode cX1_easyRoots 35 = .ok (.goto 16, 3) := dk_167 0 16 (dk_at dksX1_easyRoots_2 3 rfl rfl)
theorem dX1_easyRoots_38 : decode cX1_easyRoots 38 = .ok (.sipush 532, 3) := dk_17 2 20 (dk_at dksX1_easyRoots_2 6 rfl rfl)
theorem dX1_easyRoots_41 : decode cX1_easyRoots 41 = .ok (.goto 10, 3) := dk_167 0 10 (dk_at dksX1_easyRoots_2 9 rfl rfl)
theorem dX1_easyRoots_44 : decode cX1_easyRoots 44 = .ok (.sipush 2709, 3) := dk_17 10 149 (dk_at dksX1_easyRoots_2 12 rfl rfl)
theorem dX1_easyRoots_47 : decode cX1_easyRoots 47 = .ok (.goto 4, 3) := dk_167 0 4 (dk_at dksX1_easyRoots_2 15 rfl rfl)
theorem dX1_easyRoots_50 : decode cX1_easyRoots 50 = .ok (.iconst 0, 1) := dk_3 (dk_at dksX1_easyRoots_2 18 rfl rfl)
theorem dX1_easyRoots_51 : decode cX1_easyRoots 51 = .ok (.ireturn, 1) := dk_172 (dk_at dksX1_easyRoots_2 19 rfl rfl)
theorem dX1_has_0 : decode cX1_has 0 = .ok (.iload_n 0, 1) := dk_26 (dk_at dksX1_has_0 0 rfl rfl)
theorem dX1_has_1 : decode cX1_has 1 = .ok (.iload_n 1, 1) := dk_27 (dk_at dksX1_has_0 1 rfl rfl)
theorem dX1_has_2 : decode cX1_has 2 = .ok (.ishr, 1) := dk_122 (dk_at dksX1_has_0 2 rfl rfl)
theorem dX1_has_3 : decode cX1_has 3 = .ok (.iconst 1, 1) := dk_4 (dk_at dksX1_has_0 3 rfl rfl)
theorem dX1_has_4 : decode cX1_has 4 = .ok (.iand, 1) := dk_126 (dk_at dksX1_has_0 4 rfl rfl)
theorem dX1_has_5 : decode cX1_has 5 = .ok (.iconst 1, 1) := dk_4 (dk_at dksX1_has_0 5 rfl rfl)
theorem dX1_has_6 : decode cX1_has 6 = .ok (.if_icmp .ne 7, 3) := dk_160 0 7 (dk_at dksX1_has_0 6 rfl rfl)
theorem dX1_has_9 : decode cX1_has 9 = .ok (.iconst 1, 1) := dk_4 (dk_at dksX1_has_0 9 rfl rfl)
theorem dX1_has_10 : decode cX1_has 10 = .ok (.goto 4, 3) := dk_167 0 4 (dk_at dksX1_has_0 10 rfl rfl)
theorem dX1_has_13 : decode cX1_has 13 = .ok (.iconst 0, 1) := dk_3 (dk_at dksX1_has_0 13 rfl rfl)
theorem dX1_has_14 : decode cX1_has 14 = .ok (.ireturn, 1) := dk_172 (dk_at dksX1_has_0 14 rfl rfl)
theorem dX1_quality_0 : decode cX1_quality 0 = .ok (.iload_n 0, 1) := dk_26 (dk_at dksX1_quality_0 0 rfl rfl)
theorem dX1_quality_1 : decode cX1_quality 1 = .ok (.tableswitch 96 0 8 #[51, 56, 61, 66, 71, 76, 81, 86, 91], 51) := by decide +kernel
theorem dX1_quality_52 : decode cX1_quality 52 = .ok (.ldc 48, 2) := dk_18 48 (dk_at dksX1_quality_2 0 rfl rfl)
theorem dX1_quality_54 : decode cX1_quality 54 = .ok (.goto 45, 3) := dk_167 0 45 (dk_at dksX1_quality_2 2 rfl rfl)
theorem dX1_quality_57 : decode cX1_quality 57 = .ok (.ldc 103, 2) := dk_18 103 (dk_at dksX1_quality_2 5 rfl rfl)
theorem dX1_quality_59 : decode cX1_quality 59 = .ok (.goto 40, 3) := dk_167 0 40 (dk_at dksX1_quality_2 7 rfl rfl)
theorem dX1_quality_62 : decode cX1_quality 62 = .ok (.ldc 105, 2) := dk_18 105 (dk_at dksX1_quality_2 10 rfl rfl)
theorem dX1_quality_64 : decode cX1_quality 64 = .ok (.goto 35, 3) := dk_167 0 35 (dk_at dksX1_quality_2 12 rfl rfl)
theorem dX1_quality_67 : decode cX1_quality 67 = .ok (.ldc 107, 2) := dk_18 107 (dk_at dksX1_quality_2 15 rfl rfl)
theorem dX1_quality_69 : decode cX1_quality 69 = .ok (.goto 30, 3) := dk_167 0 30 (dk_at dksX1_quality_2 17 rfl rfl)
theorem dX1_quality_72 : decode cX1_quality 72 = .ok (.ldc 109, 2) := dk_18 109 (dk_at dksX1_quality_2 20 rfl rfl)
theorem dX1_quality_74 : decode cX1_quality 74 = .ok (.goto 25, 3) := dk_167 0 25 (dk_at dksX1_quality_3 0 rfl rfl)
theorem dX1_quality_77 : decode cX1_quality 77 = .ok (.ldc 111, 2) := dk_18 111 (dk_at dksX1_quality_3 3 rfl rfl)
theorem dX1_quality_79 : decode cX1_quality 79 = .ok (.goto 20, 3) := dk_167 0 20 (dk_at dksX1_quality_3 5 rfl rfl)
theorem dX1_quality_82 : decode cX1_quality 82 = .ok (.ldc 113, 2) := dk_18 113 (dk_at dksX1_quality_3 8 rfl rfl)
theorem dX1_quality_84 : decode cX1_quality 84 = .ok (.goto 15, 3) := dk_167 0 15 (dk_at dksX1_quality_3 10 rfl rfl)
theorem dX1_quality_87 : decode cX1_quality 87 = .ok (.ldc 115, 2) := dk_18 115 (dk_at dksX1_quality_3 13 rfl rfl)
theorem dX1_quality_89 : decode cX1_quality 89 = .ok (.goto 10, 3) := dk_167 0 10 (dk_at dksX1_quality_3 15 rfl rfl)
theorem dX1_quality_92 : decode cX1_quality 92 = .ok (.ldc 117, 2) := dk_18 117 (dk_at dksX1_quality_3 18 rfl rfl)
theorem dX1_quality_94 : decode cX1_quality 94 = .ok (.goto 5, 3) := dk_167 0 5 (dk_at dksX1_quality_3 20 rfl rfl)
theorem dX1_quality_97 : decode cX1_quality 97 = .ok (.ldc 119, 2) := dk_18 119 (dk_at dksX1_quality_4 0 rfl rfl)
theorem dX1_quality_99 : decode cX1_quality 99 = .ok (.areturn, 1) := dk_176 (dk_at dksX1_quality_4 2 rfl rfl)
theorem q1053 : (Jvm.Cond.methodLink "ChordSheet" (77 : Nat) ({ cls := "java/lang/String", name := "length", desc := "()I" } : Jvm.MethodName)) ∈ lw_all := lw_g (lw_at lw_m5 31 rfl) rfl
theorem q1054 : (Jvm.Cond.methodLink "ChordSheet" (83 : Nat) ({ cls := "java/lang/Math", name := "floorDiv", desc := "(II)I" } : Jvm.MethodName)) ∈ lw_all := lw_g (lw_at lw_m5 32 rfl) rfl
theorem q1055 : (Jvm.Cond.static ({ cls := "java/lang/Math", name := "floorDiv", desc := "(II)I" } : Jvm.MethodName)) ∈ lw_all := lw_g (lw_at lw_m5 33 rfl) rfl
theorem q1056 : (Jvm.Cond.code ({ cls := "java/lang/Math", name := "floorDiv", desc := "(II)I" } : Jvm.MethodName) prog_27_method_47_code (3 : Nat) (Option.some Jvm.ClassFile.FieldType.int)) ∈ lw_all := lw_g (lw_at lw_m5 34 rfl) rfl
theorem q1647 : (Jvm.Cond.methodLink "ChordSheet" (56 : Nat) ({ cls := "ChordSheet", name := "isIn", desc := "(JJJ)Z" } : Jvm.MethodName)) ∈ lw_all := lw_g (lw_at lw_m7 145 rfl) rfl
theorem q1648 : (Jvm.Cond.static ({ cls := "ChordSheet", name := "isIn", desc := "(JJJ)Z" } : Jvm.MethodName)) ∈ lw_all := lw_g (lw_at lw_m7 146 rfl) rfl
theorem q1649 : (Jvm.Cond.code ({ cls := "ChordSheet", name := "isIn", desc := "(JJJ)Z" } : Jvm.MethodName) prog_1_method_2_code (6 : Nat) (Option.some Jvm.ClassFile.FieldType.boolean)) ∈ lw_all := lw_g (lw_at lw_m7 147 rfl) rfl
theorem q1653 : (Jvm.Cond.classLink "ChordSheet" (63 : Nat) "java/lang/IllegalArgumentException") ∈ lw_all := lw_g (lw_at lw_m7 151 rfl) rfl
theorem q1667 : (Jvm.Cond.classLink "ChordSheet" (66 : Nat) "java/lang/IllegalStateException") ∈ lw_all := lw_g (lw_at lw_m7 165 rfl) rfl
theorem q1698 : (Jvm.Cond.classLink "ChordSheet" (60 : Nat) "java/lang/IndexOutOfBoundsException") ∈ lw_all := lw_g (lw_at lw_m7 196 rfl) rfl
theorem q63 : (Jvm.Cond.initialized "ChordSheet") ∈ lw_all := lw_g (lw_at lw_m1 1 rfl) rfl
theorem q78 : (Jvm.Cond.initialized "java/lang/IllegalArgumentException") ∈ lw_all := lw_g (lw_at lw_m1 16 rfl) rfl
theorem q79 : (Jvm.Cond.initialized "java/lang/IllegalStateException") ∈ lw_all := lw_g (lw_at lw_m1 17 rfl) rfl
theorem q899 : (Jvm.Cond.methodLink "ChordSheet" (69 : Nat) ({ cls := "java/lang/Math", name := "floorMod", desc := "(II)I" } : Jvm.MethodName)) ∈ lw_all := lw_g (lw_at lw_m4 117 rfl) rfl
theorem q900 : (Jvm.Cond.static ({ cls := "java/lang/Math", name := "floorMod", desc := "(II)I" } : Jvm.MethodName)) ∈ lw_all := lw_g (lw_at lw_m4 118 rfl) rfl
theorem q901 : (Jvm.Cond.code ({ cls := "java/lang/Math", name := "floorMod", desc := "(II)I" } : Jvm.MethodName) prog_27_method_50_code (3 : Nat) (Option.some Jvm.ClassFile.FieldType.int)) ∈ lw_all := lw_g (lw_at lw_m4 119 rfl) rfl
theorem q92 : (Jvm.Cond.initialized "java/lang/IndexOutOfBoundsException") ∈ lw_all := lw_g (lw_at lw_m1 30 rfl) rfl
/-- it throws E, the heap is as P says -/
def zth (E : String) (P : Nat → zH → Prop) : zR → zH → Prop := fun r h' => ∃ q, r = .inr (E, q) ∧ P q h'
/-- it throws E and changes nothing -/
def zthp (h : zH) (E : String) : zR → zH → Prop := zth E fun _ h' => h' = h
theorem zthk {X : zT} {kc ks : Nat} {L : List (Nat × Value)} {pc : Nat} {st : List Value} {E : String} {P : Nat → zH → Prop} : ∀ v h', zth E P (.inl v) h' → Z X h' kc ks L (pc + 3) (v.toList ++ st) := by
  intro v h' hp
  obtain ⟨q, e, -⟩ := hp
  cases e
theorem zthx {X : zT} {kc ks : Nat} {L : List (Nat × Value)} {pc : Nat} {E : String} {P : Nat → zH → Prop} (K : ∀ q h', P q h' → ZX X h' kc ks L pc E q) : ∀ E' q h', zth E P (.inr (E', q)) h' → ZX X h' kc ks L pc E' q := by
  intro E' q h' hp
  obtain ⟨q1, e, hP⟩ := hp
  cases e
  exact K _ _ hP
section ZK
variable {X : zT} {cc : ByteArray} {own : String} {ret : Option FieldType} {nf nl : Nat} {hh : List ExceptionTableEntry} {h : zH} {kc ks : Nat} {L : List (Nat × Value)} {pc : Nat} {st : List Value}
theorem iI_sm : ∀ n < 32, ((iI (n : Nat) &&& 31).toBitVec.smod 32).toNat = n := by decide +kernel
theorem iI_shrk {a k : Int} (ha : 0 ≤ a ∧ a ≤ 2147483647) (hk : 0 ≤ k ∧ k < 32) : iI a >>> (iI k &&& 31) = iI (a / 2 ^ k.toNat) := by
  obtain ⟨n, rfl⟩ := Int.eq_ofNat_of_zero_le hk.1
  obtain ⟨m, rfl⟩ := Int.eq_ofNat_of_zero_le ha.1
  rw [iI_nI ha.1, pk_shrN (by omega) _ n (iI_sm n (by omega)), Int.toNat_natCast, Int.toNat_natCast]
  rw [show ((m : Nat) : Int) / 2 ^ n = ((m / 2 ^ n : Nat) : Int) by push_cast; rfl]
  exact iI_ofNat _
theorem iI_and1 {a : Int} (ha : 0 ≤ a ∧ a ≤ 2147483647) : iI a &&& iI 1 = iI (a % 2) := by
  rw [iI_nI ha.1, pk_andN (by omega) 1 (by decide), iI_nI (by omega)]
  congr 1
  omega
theorem z_ishrk (C : zC X cc own ret nf nl hh) {a k : Int} (ha : 0 ≤ a ∧ a ≤ 2147483647) (hk : 0 ≤ k ∧ k < 32) (d : decode cc pc = .ok (.ishr, 1)) (K : Z X h kc ks L (pc + 1) (.int (iI (a / 2 ^ k.toNat)) :: st)) : Z X h kc ks L pc (.int (iI k) :: .int (iI a) :: st) := z_ishr C d (iI_shrk ha hk) K
theorem z_and1 (C : zC X cc own ret nf nl hh) {a : Int} (ha : 0 ≤ a ∧ a ≤ 2147483647) (d : decode cc pc = .ok (.iand, 1)) (K : Z X h kc ks L (pc + 1) (.int (iI (a % 2)) :: st)) : Z X h kc ks L pc (.int (iI 1) :: .int (iI a) :: st) := z_iand C d (iI_and1 ha) K
end ZK
theorem zS_0 : zch "" = ([] : List Int) := by decide +kernel
theorem zS_1 : zch "m" = [109] := by decide +kernel
theorem zS_2 : zch "7" = [55] := by decide +kernel
theorem zS_3 : zch "m7" = [109, 55] := by decide +kernel
theorem zS_4 : zch "maj7" = [109, 97, 106, 55] := by decide +kernel
theorem zS_5 : zch "dim" = [100, 105, 109] := by decide +kernel
theorem zS_6 : zch "aug" = [97, 117, 103] := by decide +kernel
theorem zS_7 : zch "sus4" = [115, 117, 115, 52] := by decide +kernel
theorem zS_8 : zch "6" = [54] := by decide +kernel
theorem zS_9 : zch "9" = [57] := by decide +kernel
theorem zS_10 : zch "FCGDAEB" = [70, 67, 71, 68, 65, 69, 66] := by decide +kernel
theorem zS_11 : zch "FCGDAEB" = [70, 67, 71, 68, 65, 69, 66] := by decide +kernel
theorem th_I : ∀ w ∈ vx_at0 "ChordSheet" 62 "java/lang/IndexOutOfBoundsException" ["java/lang/RuntimeException", "java/lang/Exception"], w ∈ lw_tbl ∧ (goodWord w || zok w) = true := zat0 [75, 390, 399, 406, 409, 411, 391, 392, 113, 114, 393, 398, 407, 425, 380, 426, 382, 427, 384, 394, 396, 386, 1708, 1709, 1710, 1658, 653, 1658, 1659, 1660, 1661, 373, 1661, 1662, 1663, 391, 375, 1707, 1699, 1700, 1701, 404, 1702, 1703, 1704, 1705, 389, 388, 1706] (by decide +kernel) (by decide +kernel)
theorem th_A : ∀ w ∈ vx_at0 "ChordSheet" 65 "java/lang/IllegalArgumentException" ["java/lang/RuntimeException", "java/lang/Exception"], w ∈ lw_tbl ∧ (goodWord w || zok w) = true := zat0 [75, 390, 399, 406, 409, 411, 391, 392, 113, 114, 393, 398, 407, 425, 380, 426, 382, 427, 384, 394, 396, 386, 1655, 1656, 1657, 1658, 653, 1658, 1659, 1660, 1661, 373, 1661, 1662, 1663, 391, 375, 1654, 651, 652, 655, 402, 656, 657, 658, 659, 389, 388, 660] (by decide +kernel) (by decide +kernel)
theorem th_S : ∀ w ∈ vx_at0 "ChordSheet" 68 "java/lang/IllegalStateException" ["java/lang/RuntimeException", "java/lang/Exception"], w ∈ lw_tbl ∧ (goodWord w || zok w) = true := zat0 [75, 390, 399, 406, 409, 411, 391, 392, 113, 114, 393, 398, 407, 425, 380, 426, 382, 427, 384, 394, 396, 386, 1669, 1670, 1671, 1658, 653, 1658, 1659, 1660, 1661, 373, 1661, 1662, 1663, 391, 375, 1668, 978, 979, 980, 403, 981, 982, 983, 984, 389, 388, 985] (by decide +kernel) (by decide +kernel)
def pcl (p : Int) : Int := (7 * p) % 12
def acc (p : Int) : Int := (p + 1) / 7
def plf (f p : Int) : Int := f + (7 * p - f) % 12
def iabs (x : Int) : Int := if 0 ≤ x then x else -x
def sgn (t m : Int) : Int := t - if m = 1 then 3 else 0
def insc (t m p : Int) : Int := if plf (sgn t m - 1) p ≤ sgn t m - 1 + 6 then 1 else 0
def spl (t m p s : Int) : Int := if s = 1 ∧ iabs (acc (plf (sgn t m - 3) p)) = 2 then if 0 < acc (plf (sgn t m - 3) p) then plf (sgn t m - 3) p - 12 else plf (sgn t m - 3) p + 12 else plf (sgn t m - 3) p
def dgo (t m s : Int) : Nat → Int → Int → Int → Int
  | 0, _, _, d => d
  | f + 1, k, n, d => if insc t m ((k + pcl t) % 12) = 1 then dgo t m s f (k + 1) (n + 1) (if k = s then n + 1 else d) else dgo t m s f (k + 1) n d
def dgr (t m p : Int) : Int := dgo t m ((p - pcl t) % 12) 12 0 0 0
def hsg (t m s : Int) : Int := plf ((if m = 1 then 3 else 0) - 5) ((pcl t + s) % 12) - if m = 1 then 3 else 0
def hgt (t m s fl : Int) : Int := (if hsg t m s = 6 ∧ fl = 1 then -6 else hsg t m s) + if m = 1 then 3 else 0
def ivl (q : Int) : Int := if q = 0 then 145 else if q = 1 then 137 else if q = 2 then 1169 else if q = 3 then 1161 else if q = 4 then 2193 else if q = 5 then 73 else if q = 6 then 273 else if q = 7 then 161 else if q = 8 then 657 else 1173
def esy (q : Int) : Int := if q = 0 then 661 else if q = 1 then 532 else if q = 2 then 2709 else if q = 3 then 532 else 0
def hsb (a k : Int) : Int := if a / 2 ^ k.toNat % 2 = 1 then 1 else 0
def qlt (q : Int) : List Int := if q = 0 then [] else if q = 1 then [109] else if q = 2 then [55] else if q = 3 then [109, 55] else if q = 4 then [109, 97, 106, 55] else if q = 5 then [100, 105, 109] else if q = 6 then [97, 117, 103] else if q = 7 then [115, 117, 115, 52] else if q = 8 then [54] else [57]
def scode (r q b : Int) : Int := 2 * (10 * r + q) + b
def iez (r q : Int) : Int := hsb (esy q) r
def sdf (r q b : Int) : Int := (if iez r q = 1 then 1 else 4) + (if 3 < q then 1 else 0) + b
theorem pcl_r (p : Int) : 0 ≤ pcl p ∧ pcl p < 12 := by unfold pcl; omega
theorem plf_r (f p : Int) : f ≤ plf f p ∧ plf f p < f + 12 := by unfold plf; omega
theorem sgn_r {t m : Int} (hm : m = 0 ∨ m = 1) : t - 3 ≤ sgn t m ∧ sgn t m ≤ t := by unfold sgn; split <;> omega
theorem insc_r (t m p : Int) : insc t m p = 0 ∨ insc t m p = 1 := by unfold insc; split <;> omega
theorem hsb_r (a k : Int) : hsb a k = 0 ∨ hsb a k = 1 := by unfold hsb; split <;> omega
theorem iez_r (r q : Int) : iez r q = 0 ∨ iez r q = 1 := hsb_r _ _
theorem esy_r (q : Int) : 0 ≤ esy q ∧ esy q < 4096 := by unfold esy; (repeat' split) <;> omega
theorem ivl_r (q : Int) : 0 ≤ ivl q ∧ ivl q < 4096 := by unfold ivl; (repeat' split) <;> omega
theorem acc_r {p : Int} (hp : -1000 ≤ p ∧ p ≤ 1000) : -150 ≤ acc p ∧ acc p ≤ 150 := by unfold acc; omega
set_option maxHeartbeats 4000000 in
theorem ct_isIn {l : Launch} (hl : l.stackTraces = false) {Γ : zCx} {h : zH} {a b c : Int} (ha : -9223372036854775808 ≤ a ∧ a ≤ 9223372036854775807) (hb : -9223372036854775808 ≤ b ∧ b ≤ 9223372036854775807) (hc : -9223372036854775808 ≤ c ∧ c ≤ 9223372036854775807) : zMet l yX1_isIn (ws_ yX1_isIn cX1_isIn 6 (some .boolean)) ({ frames := 0, cells := 0, slots := 0, locals := 0 }) Γ h [.long (lI a), .long (lI b), .long (lI c)] (zpure h (some (.int (iI (if b ≤ a ∧ a ≤ c then 1 else 0))))) 0 0 := by
  refine zMet.of (cc := cX1_isIn) hl (plainFor_of_name (by decide +kernel)) (Nat.le_of_ble_eq_true rfl) ?_
  intro X hXl hXΓ hXp C hnm hnL
  have C : zC X cX1_isIn RX1 (some .boolean) 0 0 [] := C
  have hnL : X.2.1.2.2.2.2 = 6 := hnL
  subst hXl hXΓ
  show Z X h 0 0 [(0, .long (lI a)), (2, .long (lI b)), (4, .long (lI c))] 0 []
  refine z_lload_n (pc := 0) (j := 0) C dX1_isIn_0 rfl rfl ?_
  refine z_lload_n (pc := 1) (j := 1) C dX1_isIn_1 rfl rfl ?_
  refine z_lcmp3 (pc := 2) C dX1_isIn_2 (by omega) (by omega) (fun c2 => ?_) (fun c2 => ?_) (fun c2 => ?_)
  · refine z_if_lt (pc := 3) (tgt := 17) C dX1_isIn_3 (by decide) (by decide) (fun z => absurd z (by decide)) (fun _ => ?_)
    refine z_lload_n (pc := 6) (j := 0) C dX1_isIn_6 rfl rfl ?_
    refine z_lload (pc := 7) (j := 2) C dX1_isIn_7 rfl ?_
    refine z_lcmp3 (pc := 9) C dX1_isIn_9 (by omega) (by omega) (fun c9 => ?_) (fun c9 => ?_) (fun c9 => ?_)
    · refine z_if_gt (pc := 10) (tgt := 17) C dX1_isIn_10 (by decide) (by decide) (fun z => absurd z (by decide)) (fun _ => ?_)
      refine z_iconst (pc := 13) C dX1_isIn_13 ?_
      refine z_goto (pc := 14) (tgt := 18) C dX1_isIn_14 (by decide) ?_
      exact z_zreturn (pc := 18) C (by decide) (by rw [hXp]; exact zpure_i (by split <;> omega) rfl) dX1_isIn_18
    · refine z_if_gt (pc := 10) (tgt := 17) C dX1_isIn_10 (by decide) (by decide) (fun _ => ?_) (fun z => absurd z (by decide))
      refine z_iconst (pc := 17) C dX1_isIn_17 ?_
      exact z_zreturn (pc := 18) C (by decide) (by rw [hXp]; exact zpure_i (by split <;> omega) rfl) dX1_isIn_18
    · refine z_if_gt (pc := 10) (tgt := 17) C dX1_isIn_10 (by decide) (by decide) (fun z => absurd z (by decide)) (fun _ => ?_)
      refine z_iconst (pc := 13) C dX1_isIn_13 ?_
      refine z_goto (pc := 14) (tgt := 18) C dX1_isIn_14 (by decide) ?_
      exact z_zreturn (pc := 18) C (by decide) (by rw [hXp]; exact zpure_i (by split <;> omega) rfl) dX1_isIn_18
  · refine z_if_lt (pc := 3) (tgt := 17) C dX1_isIn_3 (by decide) (by decide) (fun z => absurd z (by decide)) (fun _ => ?_)
    refine z_lload_n (pc := 6) (j := 0) C dX1_isIn_6 rfl rfl ?_
    refine z_lload (pc := 7) (j := 2) C dX1_isIn_7 rfl ?_
    refine z_lcmp3 (pc := 9) C dX1_isIn_9 (by omega) (by omega) (fun c9 => ?_) (fun c9 => ?_) (fun c9 => ?_)
    · refine z_if_gt (pc := 10) (tgt := 17) C dX1_isIn_10 (by decide) (by decide) (fun z => absurd z (by decide)) (fun _ => ?_)
      refine z_iconst (pc := 13) C dX1_isIn_13 ?_
      refine z_goto (pc := 14) (tgt := 18) C dX1_isIn_14 (by decide) ?_
      exact z_zreturn (pc := 18) C (by decide) (by rw [hXp]; exact zpure_i (by split <;> omega) rfl) dX1_isIn_18
    · refine z_if_gt (pc := 10) (tgt := 17) C dX1_isIn_10 (by decide) (by decide) (fun _ => ?_) (fun z => absurd z (by decide))
      refine z_iconst (pc := 17) C dX1_isIn_17 ?_
      exact z_zreturn (pc := 18) C (by decide) (by rw [hXp]; exact zpure_i (by split <;> omega) rfl) dX1_isIn_18
    · refine z_if_gt (pc := 10) (tgt := 17) C dX1_isIn_10 (by decide) (by decide) (fun z => absurd z (by decide)) (fun _ => ?_)
      refine z_iconst (pc := 13) C dX1_isIn_13 ?_
      refine z_goto (pc := 14) (tgt := 18) C dX1_isIn_14 (by decide) ?_
      exact z_zreturn (pc := 18) C (by decide) (by rw [hXp]; exact zpure_i (by split <;> omega) rfl) dX1_isIn_18
  · refine z_if_lt (pc := 3) (tgt := 17) C dX1_isIn_3 (by decide) (by decide) (fun _ => ?_) (fun z => absurd z (by decide))
    refine z_iconst (pc := 17) C dX1_isIn_17 ?_
    exact z_zreturn (pc := 18) C (by decide) (by rw [hXp]; exact zpure_i (by split <;> omega) rfl) dX1_isIn_18
set_option maxHeartbeats 4000000 in
theorem ct_chkI {l : Launch} (hl : l.stackTraces = false) {Γ : zCx} {h : zH} {i n : Int} (hr : n ≤ 2147483647) (hi : 0 ≤ i ∧ i < n) : zMet l yX1_checkIndex (ws_ yX1_checkIndex cX1_checkIndex 2 none) ({ frames := 1, cells := 0, slots := 0, locals := 25 }) Γ h [.int (iI i), .int (iI n)] (zpure h none) 0 0 := by
  refine zMet.of (cc := cX1_checkIndex) hl (plainFor_of_name (by decide +kernel)) (Nat.le_of_ble_eq_true rfl) ?_
  intro X hXl hXΓ hXp C hnm hnL
  have C : zC X cX1_checkIndex RX1 none 1 25 [] := C
  have hnL : X.2.1.2.2.2.2 = 2 := hnL
  subst hXl hXΓ
  show Z X h 0 0 [(0, .int (iI i)), (1, .int (iI n))] 0 []
  refine z_iload_n (pc := 0) (j := 0) C dX1_checkIndex_0 rfl rfl ?_
  refine z_i2lI (pc := 1) C dX1_checkIndex_1 (by omega) ?_
  refine z_lconst (pc := 2) (v := lI 0) C dX1_checkIndex_2 (by decide) ?_
  refine z_iload_n (pc := 3) (j := 1) C dX1_checkIndex_3 rfl rfl ?_
  refine z_i2lI (pc := 4) C dX1_checkIndex_4 (by omega) ?_
  refine z_lconst (pc := 5) (v := lI 1) C dX1_checkIndex_5 (by decide) ?_
  refine z_lsubI (pc := 6) C dX1_checkIndex_6 ?_
  refine z_callS (pc := 7) (n := 3) (kc' := 0) (ks' := 0) C (ct_isIn C.t (a := i) (b := 0) (c := n - 1) (by omega) (by decide) (by omega)) (lw_S q1647 q1648 q63 q1649) (by decide +kernel) ⟨by decide, by decide⟩ rfl rfl (Nat.le_of_ble_eq_true rfl) dX1_checkIndex_7 (by omega) (by omega) (zpk (st' := [.int (iI (if 0 ≤ i ∧ i ≤ n - 1 then 1 else 0))]) rfl ?_) zrx
  rw [show ((if 0 ≤ i ∧ i ≤ n - 1 then 1 else 0) : Int) = 1 from if_pos (by omega)]
  show Z X h 0 0 [(0, .int (iI i)), (1, .int (iI n))] 10 [.int (iI 1)]
  refine z_if_ne (pc := 10) (tgt := 21) C dX1_checkIndex_10 (by decide) (by decide) (fun _ => ?_) (fun z => absurd z (by decide))
  exact z_return (pc := 21) C (by rw [hXp]; exact zpure_v rfl rfl) dX1_checkIndex_21
set_option maxHeartbeats 4000000 in
theorem ct_chkIb {l : Launch} (hl : l.stackTraces = false) {Γ : zCx} {h : zH} {i n : Int} (hr : -2147483648 ≤ i ∧ i ≤ 2147483647 ∧ 0 ≤ n ∧ n ≤ 2147483647) (hi : ¬ (0 ≤ i ∧ i < n)) : zMet l yX1_checkIndex (ws_ yX1_checkIndex cX1_checkIndex 2 none) ({ frames := 6, cells := 1, slots := 6, locals := 81 }) Γ h [.int (iI i), .int (iI n)] (zthp h "java/lang/IndexOutOfBoundsException") 1 6 := by
  refine zMet.of (cc := cX1_checkIndex) hl (plainFor_of_name (by decide +kernel)) (Nat.le_of_ble_eq_true rfl) ?_
  intro X hXl hXΓ hXp C hnm hnL
  have C : zC X cX1_checkIndex RX1 none 6 81 [] := C
  have hnL : X.2.1.2.2.2.2 = 2 := hnL
  subst hXl hXΓ
  show Z X h 1 6 [(0, .int (iI i)), (1, .int (iI n))] 0 []
  refine z_iload_n (pc := 0) (j := 0) C dX1_checkIndex_0 rfl rfl ?_
  refine z_i2lI (pc := 1) C dX1_checkIndex_1 (by omega) ?_
  refine z_lconst (pc := 2) (v := lI 0) C dX1_checkIndex_2 (by decide) ?_
  refine z_iload_n (pc := 3) (j := 1) C dX1_checkIndex_3 rfl rfl ?_
  refine z_i2lI (pc := 4) C dX1_checkIndex_4 (by omega) ?_
  refine z_lconst (pc := 5) (v := lI 1) C dX1_checkIndex_5 (by decide) ?_
  refine z_lsubI (pc := 6) C dX1_checkIndex_6 ?_
  refine z_callS (pc := 7) (n := 3) (kc' := 1) (ks' := 6) C (ct_isIn C.t (a := i) (b := 0) (c := n - 1) (by omega) (by decide) (by omega)) (lw_S q1647 q1648 q63 q1649) (by decide +kernel) ⟨by decide, by decide⟩ rfl rfl (Nat.le_of_ble_eq_true rfl) dX1_checkIndex_7 (by omega) (by omega) (zpk (st' := [.int (iI (if 0 ≤ i ∧ i ≤ n - 1 then 1 else 0))]) rfl ?_) zrx
  rw [show ((if 0 ≤ i ∧ i ≤ n - 1 then 1 else 0) : Int) = 0 from if_neg (by omega)]
  show Z X h 1 6 [(0, .int (iI i)), (1, .int (iI n))] 10 [.int (iI 0)]
  refine z_if_ne (pc := 10) (tgt := 21) C dX1_checkIndex_10 (by decide) (by decide) (fun z => absurd z (by decide)) (fun _ => ?_)
  exact z_throw0 (pc := 13) (names := ["java/lang/RuntimeException", "java/lang/Exception"]) C q1698 q92 (by decide +kernel) (by decide +kernel) th_I (by decide +kernel) dX1_checkIndex_13 dX1_checkIndex_16 dX1_checkIndex_17 dX1_checkIndex_20 (fun x hx => nomatch hx) (by decide) (Nat.le_of_ble_eq_true rfl) (by omega) (by omega) (fun q => by rw [hXp]; exact ⟨_, rfl, rfl⟩)
set_option maxHeartbeats 4000000 in
theorem ct_chkA {l : Launch} (hl : l.stackTraces = false) {Γ : zCx} {h : zH}  : zMet l yX1_checkArgument (ws_ yX1_checkArgument cX1_checkArgument 1 none) ({ frames := 0, cells := 0, slots := 0, locals := 0 }) Γ h [.int (iI 1)] (zpure h none) 0 0 := by
  refine zMet.of (cc := cX1_checkArgument) hl (plainFor_of_name (by decide +kernel)) (Nat.le_of_ble_eq_true rfl) ?_
  intro X hXl hXΓ hXp C hnm hnL
  have C : zC X cX1_checkArgument RX1 none 0 0 [] := C
  have hnL : X.2.1.2.2.2.2 = 1 := hnL
  subst hXl hXΓ
  show Z X h 0 0 [(0, .int (iI 1))] 0 []
  refine z_iload_n (pc := 0) (j := 0) C dX1_checkArgument_0 rfl rfl ?_
  refine z_if_ne (pc := 1) (tgt := 12) C dX1_checkArgument_1 (by decide) (by decide) (fun _ => ?_) (fun z => absurd z (by decide))
  exact z_return (pc := 12) C (by rw [hXp]; exact zpure_v rfl rfl) dX1_checkArgument_12
set_option maxHeartbeats 4000000 in
theorem ct_chkAb {l : Launch} (hl : l.stackTraces = false) {Γ : zCx} {h : zH}  : zMet l yX1_checkArgument (ws_ yX1_checkArgument cX1_checkArgument 1 none) ({ frames := 6, cells := 1, slots := 6, locals := 81 }) Γ h [.int (iI 0)] (zthp h "java/lang/IllegalArgumentException") 1 6 := by
  refine zMet.of (cc := cX1_checkArgument) hl (plainFor_of_name (by decide +kernel)) (Nat.le_of_ble_eq_true rfl) ?_
  intro X hXl hXΓ hXp C hnm hnL
  have C : zC X cX1_checkArgument RX1 none 6 81 [] := C
  have hnL : X.2.1.2.2.2.2 = 1 := hnL
  subst hXl hXΓ
  show Z X h 1 6 [(0, .int (iI 0))] 0 []
  refine z_iload_n (pc := 0) (j := 0) C dX1_checkArgument_0 rfl rfl ?_
  refine z_if_ne (pc := 1) (tgt := 12) C dX1_checkArgument_1 (by decide) (by decide) (fun z => absurd z (by decide)) (fun _ => ?_)
  exact z_throw0 (pc := 4) (names := ["java/lang/RuntimeException", "java/lang/Exception"]) C q1653 q78 (by decide +kernel) (by decide +kernel) th_A (by decide +kernel) dX1_checkArgument_4 dX1_checkArgument_7 dX1_checkArgument_8 dX1_checkArgument_11 (fun x hx => nomatch hx) (by decide) (Nat.le_of_ble_eq_true rfl) (by omega) (by omega) (fun q => by rw [hXp]; exact ⟨_, rfl, rfl⟩)
set_option maxHeartbeats 4000000 in
theorem ct_chkS {l : Launch} (hl : l.stackTraces = false) {Γ : zCx} {h : zH}  : zMet l yX1_checkState (ws_ yX1_checkState cX1_checkState 1 none) ({ frames := 0, cells := 0, slots := 0, locals := 0 }) Γ h [.int (iI 1)] (zpure h none) 0 0 := by
  refine zMet.of (cc := cX1_checkState) hl (plainFor_of_name (by decide +kernel)) (Nat.le_of_ble_eq_true rfl) ?_
  intro X hXl hXΓ hXp C hnm hnL
  have C : zC X cX1_checkState RX1 none 0 0 [] := C
  have hnL : X.2.1.2.2.2.2 = 1 := hnL
  subst hXl hXΓ
  show Z X h 0 0 [(0, .int (iI 1))] 0 []
  refine z_iload_n (pc := 0) (j := 0) C dX1_checkState_0 rfl rfl ?_
  refine z_if_ne (pc := 1) (tgt := 12) C dX1_checkState_1 (by decide) (by decide) (fun _ => ?_) (fun z => absurd z (by decide))
  exact z_return (pc := 12) C (by rw [hXp]; exact zpure_v rfl rfl) dX1_checkState_12
set_option maxHeartbeats 4000000 in
theorem ct_chkSb {l : Launch} (hl : l.stackTraces = false) {Γ : zCx} {h : zH}  : zMet l yX1_checkState (ws_ yX1_checkState cX1_checkState 1 none) ({ frames := 6, cells := 1, slots := 6, locals := 81 }) Γ h [.int (iI 0)] (zthp h "java/lang/IllegalStateException") 1 6 := by
  refine zMet.of (cc := cX1_checkState) hl (plainFor_of_name (by decide +kernel)) (Nat.le_of_ble_eq_true rfl) ?_
  intro X hXl hXΓ hXp C hnm hnL
  have C : zC X cX1_checkState RX1 none 6 81 [] := C
  have hnL : X.2.1.2.2.2.2 = 1 := hnL
  subst hXl hXΓ
  show Z X h 1 6 [(0, .int (iI 0))] 0 []
  refine z_iload_n (pc := 0) (j := 0) C dX1_checkState_0 rfl rfl ?_
  refine z_if_ne (pc := 1) (tgt := 12) C dX1_checkState_1 (by decide) (by decide) (fun z => absurd z (by decide)) (fun _ => ?_)
  exact z_throw0 (pc := 4) (names := ["java/lang/RuntimeException", "java/lang/Exception"]) C q1667 q79 (by decide +kernel) (by decide +kernel) th_S (by decide +kernel) dX1_checkState_4 dX1_checkState_7 dX1_checkState_8 dX1_checkState_11 (fun x hx => nomatch hx) (by decide) (Nat.le_of_ble_eq_true rfl) (by omega) (by omega) (fun q => by rw [hXp]; exact ⟨_, rfl, rfl⟩)
set_option maxHeartbeats 4000000 in
theorem ct_pcl {l : Launch} (hl : l.stackTraces = false) {Γ : zCx} {h : zH} {p : Int} (hp : -1000 ≤ p ∧ p ≤ 1000) : zMet l yX1_pitchClass (ws_ yX1_pitchClass cX1_pitchClass 1 (some .int)) ({ frames := 1, cells := 0, slots := 0, locals := 22 }) Γ h [.int (iI p)] (zpure h (some (.int (iI (pcl p))))) 0 0 := by
  refine zMet.of (cc := cX1_pitchClass) hl (plainFor_of_name (by decide +kernel)) (Nat.le_of_ble_eq_true rfl) ?_
  intro X hXl hXΓ hXp C hnm hnL
  have C : zC X cX1_pitchClass RX1 (some .int) 1 22 [] := C
  have hnL : X.2.1.2.2.2.2 = 1 := hnL
  subst hXl hXΓ
  show Z X h 0 0 [(0, .int (iI p))] 0 []
  refine z_bipush (pc := 0) C dX1_pitchClass_0 (by decide) ?_
  refine z_iload_n (pc := 2) (j := 0) C dX1_pitchClass_2 rfl rfl ?_
  refine z_imul (pc := 3) C dX1_pitchClass_3 ?_
  refine z_bipush (pc := 4) C dX1_pitchClass_4 (by decide) ?_
  refine z_callS (pc := 6) (n := 2) (kc' := 0) (ks' := 0) C (ct_floorMod C.t (x := 7 * p) (y := 12) (by omega) (by decide)) (lw_S q899 q900 q71 q901) (by decide +kernel) ⟨by decide, by decide⟩ rfl rfl (Nat.le_of_ble_eq_true rfl) dX1_pitchClass_6 (by omega) (by omega) (zpk (st' := [.int (iI ((7 * p) % 12))]) rfl ?_) zrx
  exact z_ireturn (pc := 9) C (by rw [hXp]; exact zpure_i rfl rfl) dX1_pitchClass_9
set_option maxHeartbeats 4000000 in
theorem ct_acc {l : Launch} (hl : l.stackTraces = false) {Γ : zCx} {h : zH} {p : Int} (hp : -1000 ≤ p ∧ p ≤ 1000) : zMet l yX1_accidentals (ws_ yX1_accidentals cX1_accidentals 1 (some .int)) ({ frames := 2, cells := 0, slots := 0, locals := 40 }) Γ h [.int (iI p)] (zpure h (some (.int (iI (acc p))))) 0 0 := by
  refine zMet.of (cc := cX1_accidentals) hl (plainFor_of_name (by decide +kernel)) (Nat.le_of_ble_eq_true rfl) ?_
  intro X hXl hXΓ hXp C hnm hnL
  have C : zC X cX1_accidentals RX1 (some .int) 2 40 [] := C
  have hnL : X.2.1.2.2.2.2 = 1 := hnL
  subst hXl hXΓ
  show Z X h 0 0 [(0, .int (iI p))] 0 []
  refine z_iload_n (pc := 0) (j := 0) C dX1_accidentals_0 rfl rfl ?_
  refine z_iconst (pc := 1) C dX1_accidentals_1 ?_
  refine z_iadd (pc := 2) C dX1_accidentals_2 ?_
  refine Z.constS C 10 rfl (fun hs1 => ?_)
  have hs1 : sAt h ((X.Γ.2.2.2 (10 + 2))) [70, 67, 71, 68, 65, 69, 66] := zS_10 ▸ hs1
  refine z_ldcS (pc := 3) C 10 rfl dX1_accidentals_3 ?_
  obtain ⟨hl_2, v_2, x_2, y_2, g_2, h1_2, h2_2, h3_2, h4_2⟩ := id (hs1)
  have h1_2 : h ((X.Γ.2.2.2 (10 + 2))) = some (false, .inr (13, [.ref v_2, .int (iI 0), .int x_2, .int y_2])) := h1_2
  refine z_callV (pc := 5) (n := 0) (kc' := 0) (ks' := 0) C (ct_S_length C.t hs1) (lw_V q1053 q468 q469 q83 q470) (by decide +kernel) ⟨by decide, by decide⟩ h1_2 rfl rfl rfl (Nat.le_of_ble_eq_true rfl) dX1_accidentals_5 (by omega) (by omega) (zpk (st' := [.int (iI 7), .int (iI (p + 1))]) rfl ?_) zrx
  refine z_callS (pc := 8) (n := 2) (kc' := 0) (ks' := 0) C (ct_floorDiv C.t (x := p + 1) (y := 7) (by omega) (by decide)) (lw_S q1054 q1055 q71 q1056) (by decide +kernel) ⟨by decide, by decide⟩ rfl rfl (Nat.le_of_ble_eq_true rfl) dX1_accidentals_8 (by omega) (by omega) (zpk (st' := [.int (iI ((p + 1) / 7))]) rfl ?_) zrx
  exact z_ireturn (pc := 11) C (by rw [hXp]; exact zpure_i rfl rfl) dX1_accidentals_11
set_option maxHeartbeats 4000000 in
theorem ct_plf {l : Launch} (hl : l.stackTraces = false) {Γ : zCx} {h : zH} {f p : Int} (hf : -1000 ≤ f ∧ f ≤ 1000) (hp : -1000 ≤ p ∧ p ≤ 1000) : zMet l yX1_placeFrom (ws_ yX1_placeFrom cX1_placeFrom 2 (some .int)) ({ frames := 1, cells := 0, slots := 0, locals := 22 }) Γ h [.int (iI f), .int (iI p)] (zpure h (some (.int (iI (plf f p))))) 0 0 := by
  refine zMet.of (cc := cX1_placeFrom) hl (plainFor_of_name (by decide +kernel)) (Nat.le_of_ble_eq_true rfl) ?_
  intro X hXl hXΓ hXp C hnm hnL
  have C : zC X cX1_placeFrom RX1 (some .int) 1 22 [] := C
  have hnL : X.2.1.2.2.2.2 = 2 := hnL
  subst hXl hXΓ
  show Z X h 0 0 [(0, .int (iI f)), (1, .int (iI p))] 0 []
  refine z_iload_n (pc := 0) (j := 0) C dX1_placeFrom_0 rfl rfl ?_
  refine z_bipush (pc := 1) C dX1_placeFrom_1 (by decide) ?_
  refine z_iload_n (pc := 3) (j := 1) C dX1_placeFrom_3 rfl rfl ?_
  refine z_imul (pc := 4) C dX1_placeFrom_4 ?_
  refine z_iload_n (pc := 5) (j := 0) C dX1_placeFrom_5 rfl rfl ?_
  refine z_isub (pc := 6) C dX1_placeFrom_6 ?_
  refine z_bipush (pc := 7) C dX1_placeFrom_7 (by decide) ?_
  refine z_callS (pc := 9) (n := 2) (kc' := 0) (ks' := 0) C (ct_floorMod C.t (x := (7 * p) - f) (y := 12) (by omega) (by decide)) (lw_S q899 q900 q71 q901) (by decide +kernel) ⟨by decide, by decide⟩ rfl rfl (Nat.le_of_ble_eq_true rfl) dX1_placeFrom_9 (by omega) (by omega) (zpk (st' := [.int (iI (((7 * p) - f) % 12)), .int (iI f)]) rfl ?_) zrx
  refine z_iadd (pc := 12) C dX1_placeFrom_12 ?_
  exact z_ireturn (pc := 13) C (by rw [hXp]; exact zpure_i rfl rfl) dX1_placeFrom_13
set_option maxHeartbeats 4000000 in
theorem ct_ivl {l : Launch} (hl : l.stackTraces = false) {Γ : zCx} {h : zH} {q : Int} (hq : 0 ≤ q ∧ q ≤ 9) : zMet l yX1_intervals (ws_ yX1_intervals cX1_intervals 1 (some .int)) ({ frames := 0, cells := 0, slots := 0, locals := 0 }) Γ h [.int (iI q)] (zpure h (some (.int (iI (ivl q))))) 0 0 := by
  refine zMet.of (cc := cX1_intervals) hl (plainFor_of_name (by decide +kernel)) (Nat.le_of_ble_eq_true rfl) ?_
  intro X hXl hXΓ hXp C hnm hnL
  have C : zC X cX1_intervals RX1 (some .int) 0 0 [] := C
  have hnL : X.2.1.2.2.2.2 = 1 := hnL
  subst hXl hXΓ
  show Z X h 0 0 [(0, .int (iI q))] 0 []
  refine z_iload_n (pc := 0) (j := 0) C dX1_intervals_0 rfl rfl ?_
  rcases (show q = 0 ∨ q = 1 ∨ q = 2 ∨ q = 3 ∨ q = 4 ∨ q = 5 ∨ q = 6 ∨ q = 7 ∨ q = 8 ∨ (q < 0 ∨ 8 < q) by omega) with c1 | c1 | c1 | c1 | c1 | c1 | c1 | c1 | c1 | c1
  · refine z_tableIn (pc := 1) (tgt := 52) C dX1_intervals_1 (by omega) (by omega) (by omega) (by rw [c1]; rfl) (by decide) ?_
    refine z_sipush (pc := 52) C dX1_intervals_52 (by decide) ?_
    refine z_goto (pc := 55) (tgt := 108) C dX1_intervals_55 (by decide) ?_
    exact z_ireturn (pc := 108) C (by rw [hXp]; exact zpure_i (by unfold ivl; (repeat' split) <;> omega) rfl) dX1_intervals_108
  · refine z_tableIn (pc := 1) (tgt := 58) C dX1_intervals_1 (by omega) (by omega) (by omega) (by rw [c1]; rfl) (by decide) ?_
    refine z_sipush (pc := 58) C dX1_intervals_58 (by decide) ?_
    refine z_goto (pc := 61) (tgt := 108) C dX1_intervals_61 (by decide) ?_
    exact z_ireturn (pc := 108) C (by rw [hXp]; exact zpure_i (by unfold ivl; (repeat' split) <;> omega) rfl) dX1_intervals_108
  · refine z_tableIn (pc := 1) (tgt := 64) C dX1_intervals_1 (by omega) (by omega) (by omega) (by rw [c1]; rfl) (by decide) ?_
    refine z_sipush (pc := 64) C dX1_intervals_64 (by decide) ?_
    refine z_goto (pc := 67) (tgt := 108) C dX1_intervals_67 (by decide) ?_
    exact z_ireturn (pc := 108) C (by rw [hXp]; exact zpure_i (by unfold ivl; (repeat' split) <;> omega) rfl) dX1_intervals_108
  · refine z_tableIn (pc := 1) (tgt := 70) C dX1_intervals_1 (by omega) (by omega) (by omega) (by rw [c1]; rfl) (by decide) ?_
    refine z_sipush (pc := 70) C dX1_intervals_70 (by decide) ?_
    refine z_goto (pc := 73) (tgt := 108) C dX1_intervals_73 (by decide) ?_
    exact z_ireturn (pc := 108) C (by rw [hXp]; exact zpure_i (by unfold ivl; (repeat' split) <;> omega) rfl) dX1_intervals_108
  · refine z_tableIn (pc := 1) (tgt := 76) C dX1_intervals_1 (by omega) (by omega) (by omega) (by rw [c1]; rfl) (by decide) ?_
    refine z_sipush (pc := 76) C dX1_intervals_76 (by decide) ?_
    refine z_goto (pc := 79) (tgt := 108) C dX1_intervals_79 (by decide) ?_
    exact z_ireturn (pc := 108) C (by rw [hXp]; exact zpure_i (by unfold ivl; (repeat' split) <;> omega) rfl) dX1_intervals_108
  · refine z_tableIn (pc := 1) (tgt := 82) C dX1_intervals_1 (by omega) (by omega) (by omega) (by rw [c1]; rfl) (by decide) ?_
    refine z_bipush (pc := 82) C dX1_intervals_82 (by decide) ?_
    refine z_goto (pc := 84) (tgt := 108) C dX1_intervals_84 (by decide) ?_
    exact z_ireturn (pc := 108) C (by rw [hXp]; exact zpure_i (by unfold ivl; (repeat' split) <;> omega) rfl) dX1_intervals_108
  · refine z_tableIn (pc := 1) (tgt := 87) C dX1_intervals_1 (by omega) (by omega) (by omega) (by rw [c1]; rfl) (by decide) ?_
    refine z_sipush (pc := 87) C dX1_intervals_87 (by decide) ?_
    refine z_goto (pc := 90) (tgt := 108) C dX1_intervals_90 (by decide) ?_
    exact z_ireturn (pc := 108) C (by rw [hXp]; exact zpure_i (by unfold ivl; (repeat' split) <;> omega) rfl) dX1_intervals_108
  · refine z_tableIn (pc := 1) (tgt := 93) C dX1_intervals_1 (by omega) (by omega) (by omega) (by rw [c1]; rfl) (by decide) ?_
    refine z_sipush (pc := 93) C dX1_intervals_93 (by decide) ?_
    refine z_goto (pc := 96) (tgt := 108) C dX1_intervals_96 (by decide) ?_
    exact z_ireturn (pc := 108) C (by rw [hXp]; exact zpure_i (by unfold ivl; (repeat' split) <;> omega) rfl) dX1_intervals_108
  · refine z_tableIn (pc := 1) (tgt := 99) C dX1_intervals_1 (by omega) (by omega) (by omega) (by rw [c1]; rfl) (by decide) ?_
    refine z_sipush (pc := 99) C dX1_intervals_99 (by decide) ?_
    refine z_goto (pc := 102) (tgt := 108) C dX1_intervals_102 (by decide) ?_
    exact z_ireturn (pc := 108) C (by rw [hXp]; exact zpure_i (by unfold ivl; (repeat' split) <;> omega) rfl) dX1_intervals_108
  · refine z_tableOut (pc := 1) (tgt := 105) C dX1_intervals_1 (by omega) c1 (by decide) ?_
    refine z_sipush (pc := 105) C dX1_intervals_105 (by decide) ?_
    exact z_ireturn (pc := 108) C (by rw [hXp]; exact zpure_i (by unfold ivl; (repeat' split) <;> omega) rfl) dX1_intervals_108
set_option maxHeartbeats 4000000 in
theorem ct_esy {l : Launch} (hl : l.stackTraces = false) {Γ : zCx} {h : zH} {q : Int} (hq : 0 ≤ q ∧ q ≤ 9) : zMet l yX1_easyRoots (ws_ yX1_easyRoots cX1_easyRoots 1 (some .int)) ({ frames := 0, cells := 0, slots := 0, locals := 0 }) Γ h [.int (iI q)] (zpure h (some (.int (iI (esy q))))) 0 0 := by
  refine zMet.of (cc := cX1_easyRoots) hl (plainFor_of_name (by decide +kernel)) (Nat.le_of_ble_eq_true rfl) ?_
  intro X hXl hXΓ hXp C hnm hnL
  have C : zC X cX1_easyRoots RX1 (some .int) 0 0 [] := C
  have hnL : X.2.1.2.2.2.2 = 1 := hnL
  subst hXl hXΓ
  show Z X h 0 0 [(0, .int (iI q))] 0 []
  refine z_iload_n (pc := 0) (j := 0) C dX1_easyRoots_0 rfl rfl ?_
  rcases (show q = 0 ∨ q = 1 ∨ q = 2 ∨ q = 3 ∨ (q < 0 ∨ 3 < q) by omega) with c1 | c1 | c1 | c1 | c1
  · refine z_tableIn (pc := 1) (tgt := 32) C dX1_easyRoots_1 (by omega) (by omega) (by omega) (by rw [c1]; rfl) (by decide) ?_
    refine z_sipush (pc := 32) C dX1_easyRoots_32 (by decide) ?_
    refine z_goto (pc := 35) (tgt := 51) C dX1_easyRoots_35 (by decide) ?_
    exact z_ireturn (pc := 51) C (by rw [hXp]; exact zpure_i (by unfold esy; (repeat' split) <;> omega) rfl) dX1_easyRoots_51
  · refine z_tableIn (pc := 1) (tgt := 38) C dX1_easyRoots_1 (by omega) (by omega) (by omega) (by rw [c1]; rfl) (by decide) ?_
    refine z_sipush (pc := 38) C dX1_easyRoots_38 (by decide) ?_
    refine z_goto (pc := 41) (tgt := 51) C dX1_easyRoots_41 (by decide) ?_
    exact z_ireturn (pc := 51) C (by rw [hXp]; exact zpure_i (by unfold esy; (repeat' split) <;> omega) rfl) dX1_easyRoots_51
  · refine z_tableIn (pc := 1) (tgt := 44) C dX1_easyRoots_1 (by omega) (by omega) (by omega) (by rw [c1]; rfl) (by decide) ?_
    refine z_sipush (pc := 44) C dX1_easyRoots_44 (by decide) ?_
    refine z_goto (pc := 47) (tgt := 51) C dX1_easyRoots_47 (by decide) ?_
    exact z_ireturn (pc := 51) C (by rw [hXp]; exact zpure_i (by unfold esy; (repeat' split) <;> omega) rfl) dX1_easyRoots_51
  · refine z_tableIn (pc := 1) (tgt := 38) C dX1_easyRoots_1 (by omega) (by omega) (by omega) (by rw [c1]; rfl) (by decide) ?_
    refine z_sipush (pc := 38) C dX1_easyRoots_38 (by decide) ?_
    refine z_goto (pc := 41) (tgt := 51) C dX1_easyRoots_41 (by decide) ?_
    exact z_ireturn (pc := 51) C (by rw [hXp]; exact zpure_i (by unfold esy; (repeat' split) <;> omega) rfl) dX1_easyRoots_51
  · refine z_tableOut (pc := 1) (tgt := 50) C dX1_easyRoots_1 (by omega) c1 (by decide) ?_
    refine z_iconst (pc := 50) C dX1_easyRoots_50 ?_
    exact z_ireturn (pc := 51) C (by rw [hXp]; exact zpure_i (by unfold esy; (repeat' split) <;> omega) rfl) dX1_easyRoots_51
set_option maxHeartbeats 4000000 in
theorem ct_has {l : Launch} (hl : l.stackTraces = false) {Γ : zCx} {h : zH} {a k : Int} (ha : 0 ≤ a ∧ a ≤ 2147483647) (hk : 0 ≤ k ∧ k < 32) : zMet l yX1_has (ws_ yX1_has cX1_has 2 (some .boolean)) ({ frames := 0, cells := 0, slots := 0, locals := 0 }) Γ h [.int (iI a), .int (iI k)] (zpure h (some (.int (iI (hsb a k))))) 0 0 := by
  refine zMet.of (cc := cX1_has) hl (plainFor_of_name (by decide +kernel)) (Nat.le_of_ble_eq_true rfl) ?_
  intro X hXl hXΓ hXp C hnm hnL
  have C : zC X cX1_has RX1 (some .boolean) 0 0 [] := C
  have hnL : X.2.1.2.2.2.2 = 2 := hnL
  subst hXl hXΓ
  show Z X h 0 0 [(0, .int (iI a)), (1, .int (iI k))] 0 []
  refine z_iload_n (pc := 0) (j := 0) C dX1_has_0 rfl rfl ?_
  refine z_iload_n (pc := 1) (j := 1) C dX1_has_1 rfl rfl ?_
  refine z_ishrk (pc := 2) C (by omega) (by omega) dX1_has_2 ?_
  refine z_iconst (pc := 3) C dX1_has_3 ?_
  refine z_and1 (pc := 4) C ⟨Int.ediv_nonneg ha.1 (Int.pow_nonneg (by decide)), Int.le_trans (Int.ediv_le_self _ ha.1) ha.2⟩ dX1_has_4 ?_
  refine z_iconst (pc := 5) C dX1_has_5 ?_
  refine z_icmp_ne (pc := 6) (tgt := 13) C dX1_has_6 (by decide) (by omega) (by decide) (fun c6 => ?_) (fun c6 => ?_)
  · refine z_iconst (pc := 13) C dX1_has_13 ?_
    exact z_zreturn (pc := 14) C (by decide) (by rw [hXp]; exact zpure_i (by unfold hsb; split <;> omega) rfl) dX1_has_14
  · refine z_iconst (pc := 9) C dX1_has_9 ?_
    refine z_goto (pc := 10) (tgt := 14) C dX1_has_10 (by decide) ?_
    exact z_zreturn (pc := 14) C (by decide) (by rw [hXp]; exact zpure_i (by unfold hsb; split <;> omega) rfl) dX1_has_14
set_option maxHeartbeats 4000000 in
theorem ct_qlt {l : Launch} (hl : l.stackTraces = false) {Γ : zCx} {h : zH} {q : Int} (hq : 0 ≤ q ∧ q ≤ 9) : zMet l yX1_quality (ws_ yX1_quality cX1_quality 1 (some (.object "java/lang/String"))) ({ frames := 0, cells := 0, slots := 0, locals := 0 }) Γ h [.int (iI q)] (zrt (fun w h' => ∃ a, w = some (.ref a) ∧ sAt h a (qlt q) ∧ h' = h)) 0 0 := by
  refine zMet.of (cc := cX1_quality) hl (plainFor_of_name (by decide +kernel)) (Nat.le_of_ble_eq_true rfl) ?_
  intro X hXl hXΓ hXp C hnm hnL
  have C : zC X cX1_quality RX1 (some (.object "java/lang/String")) 0 0 [] := C
  have hnL : X.2.1.2.2.2.2 = 1 := hnL
  subst hXl hXΓ
  show Z X h 0 0 [(0, .int (iI q))] 0 []
  refine z_iload_n (pc := 0) (j := 0) C dX1_quality_0 rfl rfl ?_
  rcases (show q = 0 ∨ q = 1 ∨ q = 2 ∨ q = 3 ∨ q = 4 ∨ q = 5 ∨ q = 6 ∨ q = 7 ∨ q = 8 ∨ (q < 0 ∨ 8 < q) by omega) with c1 | c1 | c1 | c1 | c1 | c1 | c1 | c1 | c1 | c1
  · refine z_tableIn (pc := 1) (tgt := 52) C dX1_quality_1 (by omega) (by omega) (by omega) (by rw [c1]; rfl) (by decide) ?_
    refine Z.constS C 0 rfl (fun hs1 => ?_)
    have hs1 : sAt h ((X.Γ.2.2.2 (0 + 2))) ([] : List Int) := zS_0 ▸ hs1
    refine z_ldcS (pc := 52) C 0 rfl dX1_quality_52 ?_
    refine z_goto (pc := 54) (tgt := 99) C dX1_quality_54 (by decide) ?_
    exact z_areturn (pc := 99) C (Or.inl ⟨_, rfl⟩) (Or.inr ⟨_, rfl⟩) (by rw [hXp]; exact ⟨_, rfl, (X.Γ.2.2.2 (0 + 2)), rfl, (show qlt q = ([] : List Int) by unfold qlt; (repeat' split) <;> first | rfl | (exfalso; omega)) ▸ hs1, rfl⟩) dX1_quality_99
  · refine z_tableIn (pc := 1) (tgt := 57) C dX1_quality_1 (by omega) (by omega) (by omega) (by rw [c1]; rfl) (by decide) ?_
    refine Z.constS C 1 rfl (fun hs2 => ?_)
    have hs2 : sAt h ((X.Γ.2.2.2 (1 + 2))) [109] := zS_1 ▸ hs2
    refine z_ldcS (pc := 57) C 1 rfl dX1_quality_57 ?_
    refine z_goto (pc := 59) (tgt := 99) C dX1_quality_59 (by decide) ?_
    exact z_areturn (pc := 99) C (Or.inl ⟨_, rfl⟩) (Or.inr ⟨_, rfl⟩) (by rw [hXp]; exact ⟨_, rfl, (X.Γ.2.2.2 (1 + 2)), rfl, (show qlt q = [109] by unfold qlt; (repeat' split) <;> first | rfl | (exfalso; omega)) ▸ hs2, rfl⟩) dX1_quality_99
  · refine z_tableIn (pc := 1) (tgt := 62) C dX1_quality_1 (by omega) (by omega) (by omega) (by rw [c1]; rfl) (by decide) ?_
    refine Z.constS C 2 rfl (fun hs3 => ?_)
    have hs3 : sAt h ((X.Γ.2.2.2 (2 + 2))) [55] := zS_2 ▸ hs3
    refine z_ldcS (pc := 62) C 2 rfl dX1_quality_62 ?_
    refine z_goto (pc := 64) (tgt := 99) C dX1_quality_64 (by decide) ?_
    exact z_areturn (pc := 99) C (Or.inl ⟨_, rfl⟩) (Or.inr ⟨_, rfl⟩) (by rw [hXp]; exact ⟨_, rfl, (X.Γ.2.2.2 (2 + 2)), rfl, (show qlt q = [55] by unfold qlt; (repeat' split) <;> first | rfl | (exfalso; omega)) ▸ hs3, rfl⟩) dX1_quality_99
  · refine z_tableIn (pc := 1) (tgt := 67) C dX1_quality_1 (by omega) (by omega) (by omega) (by rw [c1]; rfl) (by decide) ?_
    refine Z.constS C 3 rfl (fun hs4 => ?_)
    have hs4 : sAt h ((X.Γ.2.2.2 (3 + 2))) [109, 55] := zS_3 ▸ hs4
    refine z_ldcS (pc := 67) C 3 rfl dX1_quality_67 ?_
    refine z_goto (pc := 69) (tgt := 99) C dX1_quality_69 (by decide) ?_
    exact z_areturn (pc := 99) C (Or.inl ⟨_, rfl⟩) (Or.inr ⟨_, rfl⟩) (by rw [hXp]; exact ⟨_, rfl, (X.Γ.2.2.2 (3 + 2)), rfl, (show qlt q = [109, 55] by unfold qlt; (repeat' split) <;> first | rfl | (exfalso; omega)) ▸ hs4, rfl⟩) dX1_quality_99
  · refine z_tableIn (pc := 1) (tgt := 72) C dX1_quality_1 (by omega) (by omega) (by omega) (by rw [c1]; rfl) (by decide) ?_
    refine Z.constS C 4 rfl (fun hs5 => ?_)
    have hs5 : sAt h ((X.Γ.2.2.2 (4 + 2))) [109, 97, 106, 55] := zS_4 ▸ hs5
    refine z_ldcS (pc := 72) C 4 rfl dX1_quality_72 ?_
    refine z_goto (pc := 74) (tgt := 99) C dX1_quality_74 (by decide) ?_
    exact z_areturn (pc := 99) C (Or.inl ⟨_, rfl⟩) (Or.inr ⟨_, rfl⟩) (by rw [hXp]; exact ⟨_, rfl, (X.Γ.2.2.2 (4 + 2)), rfl, (show qlt q = [109, 97, 106, 55] by unfold qlt; (repeat' split) <;> first | rfl | (exfalso; omega)) ▸ hs5, rfl⟩) dX1_quality_99
  · refine z_tableIn (pc := 1) (tgt := 77) C dX1_quality_1 (by omega) (by omega) (by omega) (by rw [c1]; rfl) (by decide) ?_
    refine Z.constS C 5 rfl (fun hs6 => ?_)
    have hs6 : sAt h ((X.Γ.2.2.2 (5 + 2))) [100, 105, 109] := zS_5 ▸ hs6
    refine z_ldcS (pc := 77) C 5 rfl dX1_quality_77 ?_
    refine z_goto (pc := 79) (tgt := 99) C dX1_quality_79 (by decide) ?_
    exact z_areturn (pc := 99) C (Or.inl ⟨_, rfl⟩) (Or.inr ⟨_, rfl⟩) (by rw [hXp]; exact ⟨_, rfl, (X.Γ.2.2.2 (5 + 2)), rfl, (show qlt q = [100, 105, 109] by unfold qlt; (repeat' split) <;> first | rfl | (exfalso; omega)) ▸ hs6, rfl⟩) dX1_quality_99
  · refine z_tableIn (pc := 1) (tgt := 82) C dX1_quality_1 (by omega) (by omega) (by omega) (by rw [c1]; rfl) (by decide) ?_
    refine Z.constS C 6 rfl (fun hs7 => ?_)
    have hs7 : sAt h ((X.Γ.2.2.2 (6 + 2))) [97, 117, 103] := zS_6 ▸ hs7
    refine z_ldcS (pc := 82) C 6 rfl dX1_quality_82 ?_
    refine z_goto (pc := 84) (tgt := 99) C dX1_quality_84 (by decide) ?_
    exact z_areturn (pc := 99) C (Or.inl ⟨_, rfl⟩) (Or.inr ⟨_, rfl⟩) (by rw [hXp]; exact ⟨_, rfl, (X.Γ.2.2.2 (6 + 2)), rfl, (show qlt q = [97, 117, 103] by unfold qlt; (repeat' split) <;> first | rfl | (exfalso; omega)) ▸ hs7, rfl⟩) dX1_quality_99
  · refine z_tableIn (pc := 1) (tgt := 87) C dX1_quality_1 (by omega) (by omega) (by omega) (by rw [c1]; rfl) (by decide) ?_
    refine Z.constS C 7 rfl (fun hs8 => ?_)
    have hs8 : sAt h ((X.Γ.2.2.2 (7 + 2))) [115, 117, 115, 52] := zS_7 ▸ hs8
    refine z_ldcS (pc := 87) C 7 rfl dX1_quality_87 ?_
    refine z_goto (pc := 89) (tgt := 99) C dX1_quality_89 (by decide) ?_
    exact z_areturn (pc := 99) C (Or.inl ⟨_, rfl⟩) (Or.inr ⟨_, rfl⟩) (by rw [hXp]; exact ⟨_, rfl, (X.Γ.2.2.2 (7 + 2)), rfl, (show qlt q = [115, 117, 115, 52] by unfold qlt; (repeat' split) <;> first | rfl | (exfalso; omega)) ▸ hs8, rfl⟩) dX1_quality_99
  · refine z_tableIn (pc := 1) (tgt := 92) C dX1_quality_1 (by omega) (by omega) (by omega) (by rw [c1]; rfl) (by decide) ?_
    refine Z.constS C 8 rfl (fun hs9 => ?_)
    have hs9 : sAt h ((X.Γ.2.2.2 (8 + 2))) [54] := zS_8 ▸ hs9
    refine z_ldcS (pc := 92) C 8 rfl dX1_quality_92 ?_
    refine z_goto (pc := 94) (tgt := 99) C dX1_quality_94 (by decide) ?_
    exact z_areturn (pc := 99) C (Or.inl ⟨_, rfl⟩) (Or.inr ⟨_, rfl⟩) (by rw [hXp]; exact ⟨_, rfl, (X.Γ.2.2.2 (8 + 2)), rfl, (show qlt q = [54] by unfold qlt; (repeat' split) <;> first | rfl | (exfalso; omega)) ▸ hs9, rfl⟩) dX1_quality_99
  · refine z_tableOut (pc := 1) (tgt := 97) C dX1_quality_1 (by omega) c1 (by decide) ?_
    refine Z.constS C 9 rfl (fun hs10 => ?_)
    have hs10 : sAt h ((X.Γ.2.2.2 (9 + 2))) [57] := zS_9 ▸ hs10
    refine z_ldcS (pc := 97) C 9 rfl dX1_quality_97 ?_
    exact z_areturn (pc := 99) C (Or.inl ⟨_, rfl⟩) (Or.inr ⟨_, rfl⟩) (by rw [hXp]; exact ⟨_, rfl, (X.Γ.2.2.2 (9 + 2)), rfl, (show qlt q = [57] by unfold qlt; (repeat' split) <;> first | rfl | (exfalso; omega)) ▸ hs10, rfl⟩) dX1_quality_99
